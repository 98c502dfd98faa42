section
/-! sums over an initial part of the naturals, signs of products -/
def gp_sm (f : Nat → Int) : Nat → Int
  | 0 => 0
  | n + 1 => gp_sm f n + f n
theorem gp_sm_0 (f : Nat → Int) : gp_sm f 0 = 0 := rfl
theorem gp_sm_s (f : Nat → Int) (n : Nat) : gp_sm f (n + 1) = gp_sm f n + f n := rfl
theorem gp_sm_congr {f g : Nat → Int} {n : Nat} (h : ∀ i, i < n → f i = g i) : gp_sm f n = gp_sm g n := by
  induction n with
  | zero => rfl
  | succ n ih => rw [gp_sm_s, gp_sm_s, ih (fun i hi => h i (by omega)), h n (by omega)]
theorem gp_sm_add (f g : Nat → Int) (n : Nat) : gp_sm (fun i => f i + g i) n = gp_sm f n + gp_sm g n := by
  induction n with
  | zero => rfl
  | succ n ih => simp only [gp_sm_s, ih]; omega
theorem gp_sm_sub (f g : Nat → Int) (n : Nat) : gp_sm (fun i => f i - g i) n = gp_sm f n - gp_sm g n := by
  induction n with
  | zero => rfl
  | succ n ih => simp only [gp_sm_s, ih]; omega
theorem gp_sm_mul (c : Int) (f : Nat → Int) (n : Nat) : gp_sm (fun i => c * f i) n = c * gp_sm f n := by
  induction n with
  | zero => rw [gp_sm_0, gp_sm_0, Int.mul_zero]
  | succ n ih => simp only [gp_sm_s, ih, Int.mul_add]
theorem gp_sm_mulr (c : Int) (f : Nat → Int) (n : Nat) : gp_sm (fun i => f i * c) n = gp_sm f n * c := by
  induction n with
  | zero => rw [gp_sm_0, gp_sm_0, Int.zero_mul]
  | succ n ih => simp only [gp_sm_s, ih, Int.add_mul]
theorem gp_sm_zero {f : Nat → Int} {n : Nat} (h : ∀ i, i < n → f i = 0) : gp_sm f n = 0 := by
  induction n with
  | zero => rfl
  | succ n ih => rw [gp_sm_s, ih (fun i hi => h i (by omega)), h n (by omega)]; rfl
theorem gp_sm_const (c : Int) (n : Nat) : gp_sm (fun _ => c) n = n * c := by
  induction n with
  | zero => rw [gp_sm_0]; simp
  | succ n ih => rw [gp_sm_s, ih]; have : ((n + 1 : Nat) : Int) * c = n * c + c := by rw [Int.natCast_add, Int.add_mul]; simp
                 omega
theorem gp_sm_tel (f : Nat → Int) (n : Nat) : gp_sm (fun i => f (i + 1) - f i) n = f n - f 0 := by
  induction n with
  | zero => rw [gp_sm_0]; omega
  | succ n ih => rw [gp_sm_s, ih]; omega
theorem gp_sm_app (f : Nat → Int) (m n : Nat) : gp_sm f (m + n) = gp_sm f m + gp_sm (fun i => f (m + i)) n := by
  induction n with
  | zero => rw [gp_sm_0, Nat.add_zero]; omega
  | succ n ih => rw [← Nat.add_assoc, gp_sm_s, ih, gp_sm_s]; omega
theorem gp_sm_first (f : Nat → Int) (n : Nat) : gp_sm f (n + 1) = f 0 + gp_sm (fun i => f (i + 1)) n := by
  induction n with
  | zero => rw [gp_sm_s, gp_sm_0, gp_sm_0]; omega
  | succ n ih => rw [gp_sm_s, ih, gp_sm_s]; omega
theorem gp_sm_swap (f : Nat → Nat → Int) (m n : Nat) :
    gp_sm (fun i => gp_sm (fun j => f i j) n) m = gp_sm (fun j => gp_sm (fun i => f i j) m) n := by
  induction m with
  | zero => rw [gp_sm_0]; exact (gp_sm_zero (fun _ _ => rfl)).symm
  | succ m ih => rw [gp_sm_s, ih, ← gp_sm_add]; exact gp_sm_congr (fun _ _ => rfl)
theorem gp_sm_rev (f : Nat → Int) (n : Nat) : gp_sm (fun i => f (n - 1 - i)) n = gp_sm f n := by
  induction n with
  | zero => rfl
  | succ n ih =>
    rw [gp_sm_first, gp_sm_s, ← ih]
    have e : f (n + 1 - 1 - 0) = f n := rfl
    have : gp_sm (fun i => f (n + 1 - 1 - (i + 1))) n = gp_sm (fun i => f (n - 1 - i)) n :=
      gp_sm_congr (fun i hi => congrArg f (by omega))
    rw [e, this]; omega
theorem gp_sm_per1 (f : Nat → Int) (n : Nat) (h : ∀ i, f (i + n) = f i) : gp_sm (fun i => f (i + 1)) n = gp_sm f n := by
  have a := gp_sm_first f n
  have b := gp_sm_s f n
  have c := h 0
  rw [Nat.zero_add] at c
  omega
theorem gp_sm_per (f : Nat → Int) (n : Nat) (h : ∀ i, f (i + n) = f i) (k : Nat) : gp_sm (fun i => f (i + k)) n = gp_sm f n := by
  induction k with
  | zero => rfl
  | succ k ih =>
    rw [← ih, ← gp_sm_per1 (fun i => f (i + k)) n (fun i => by
      show f (i + n + k) = f (i + k)
      rw [show i + n + k = i + k + n by omega, h])]
    exact gp_sm_congr (fun i _ => congrArg f (by omega))
theorem gp_sm_one {f : Nat → Int} {n k : Nat} (hk : k < n) (h : ∀ i, i < n → i ≠ k → f i = 0) : gp_sm f n = f k := by
  induction n with
  | zero => omega
  | succ n ih =>
    rw [gp_sm_s]
    by_cases e : k = n
    · subst e; rw [gp_sm_zero (fun i hi => h i (by omega) (by omega))]; omega
    · rw [ih (by omega) (fun i hi => h i (by omega)), h n (by omega) (by omega)]; omega
theorem gp_sm_nn {f : Nat → Int} {n : Nat} (h : ∀ i, i < n → 0 ≤ f i) : 0 ≤ gp_sm f n := by
  induction n with
  | zero => rw [gp_sm_0]; omega
  | succ n ih => rw [gp_sm_s]; have := ih (fun i hi => h i (by omega)); have := h n (by omega); omega
theorem gp_sm_ge {f : Nat → Int} {n k : Nat} (hk : k < n) (h : ∀ i, i < n → 0 ≤ f i) : f k ≤ gp_sm f n := by
  induction n with
  | zero => omega
  | succ n ih =>
    rw [gp_sm_s]
    by_cases e : k = n
    · subst e; have := gp_sm_nn (f := f) (n := k) (fun i hi => h i (by omega)); omega
    · have := ih (by omega) (fun i hi => h i (by omega)); have := h n (by omega); omega
theorem gp_mpos {a b : Int} : 0 < a * b ↔ (0 < a ∧ 0 < b) ∨ (a < 0 ∧ b < 0) := by
  constructor
  · intro h
    rcases Int.lt_trichotomy a 0 with ha | ha | ha
    · rcases Int.lt_trichotomy b 0 with hb | hb | hb
      · exact Or.inr ⟨ha, hb⟩
      · rw [hb, Int.mul_zero] at h; omega
      · have := Int.mul_neg_of_neg_of_pos ha hb; omega
    · rw [ha, Int.zero_mul] at h; omega
    · rcases Int.lt_trichotomy b 0 with hb | hb | hb
      · have := Int.mul_neg_of_pos_of_neg ha hb; omega
      · rw [hb, Int.mul_zero] at h; omega
      · exact Or.inl ⟨ha, hb⟩
  · rintro (⟨ha, hb⟩ | ⟨ha, hb⟩)
    · exact Int.mul_pos ha hb
    · exact Int.mul_pos_of_neg_of_neg ha hb
theorem gp_mneg {a b : Int} : a * b < 0 ↔ (0 < a ∧ b < 0) ∨ (a < 0 ∧ 0 < b) := by
  have h := gp_mpos (a := a) (b := -b)
  rw [Int.mul_neg] at h
  constructor
  · intro z; have := h.mp (by omega); omega
  · intro z; have := h.mpr (by omega); omega
theorem gp_mzero {a b : Int} : a * b = 0 ↔ a = 0 ∨ b = 0 := Int.mul_eq_zero
/-- the sign facts of a product, all at once -/
theorem gp_sgn (a b : Int) : (0 < a * b ↔ (0 < a ∧ 0 < b) ∨ (a < 0 ∧ b < 0)) ∧ (a * b < 0 ↔ (0 < a ∧ b < 0) ∨ (a < 0 ∧ 0 < b)) ∧ (a * b = 0 ↔ a = 0 ∨ b = 0) := ⟨gp_mpos, gp_mneg, gp_mzero⟩
/-- least value of a function on an initial part -/
theorem gp_min (f : Nat → Int) (n : Nat) (hn : 0 < n) : ∃ m, m < n ∧ ∀ i, i < n → f m ≤ f i := by
  induction n with
  | zero => omega
  | succ n ih =>
    by_cases h0 : n = 0
    · exact ⟨0, by omega, fun i hi => by rw [show i = 0 by omega]; omega⟩
    · obtain ⟨m, hm, h⟩ := ih (by omega)
      by_cases hc : f m ≤ f n
      · exact ⟨m, by omega, fun i hi => by
          by_cases e : i = n
          · subst e; exact hc
          · exact h i (by omega)⟩
      · exact ⟨n, by omega, fun i hi => by
          by_cases e : i = n
          · subst e; omega
          · have := h i (by omega); omega⟩
theorem gp_add2 {a b c d : Int} (h : a = c) (k : b = d) : a + b = c + d := by rw [h, k]
end
section
/-! the crossing cocycle of plane vectors -/
def gp_d (a b : Int × Int) : Int × Int := (a.1 - b.1, a.2 - b.2)
def gp_x (a b : Int × Int) : Int := a.1 * b.2 - a.2 * b.1
def gp_H (a : Int × Int) : Int := 64 * a.2 - a.1
def gp_g (a : Int × Int) : Int := if 0 < gp_H a then 1 else 0
def gp_c (a b : Int × Int) : Int := if gp_H a < 0 ∧ 0 < gp_H b ∧ 0 < gp_x a b then 1 else if 0 < gp_H a ∧ gp_H b < 0 ∧ gp_x a b < 0 then -1 else 0
def gp_f (u a : Int × Int) : Int := u.1 * a.1 + u.2 * a.2
theorem gp_Hd (a b : Int × Int) : gp_H (gp_d a b) = gp_H a - gp_H b := by unfold gp_H gp_d; dsimp only; omega
theorem gp_fd (u a b : Int × Int) : gp_f u (gp_d a b) = gp_f u a - gp_f u b := by unfold gp_f gp_d; dsimp only; grind
theorem gp_xs (a b : Int × Int) : gp_x b a = - gp_x a b := by unfold gp_x; grind
theorem gp_x0 (a : Int × Int) : gp_x a a = 0 := by unfold gp_x; grind
theorem gp_half' {A B p q k t : Int} (hA : 0 < A) (hB : 0 < B) (hp : p ≠ 0) (hq : q ≠ 0) (id : A * q - B * p = k * t) :
    (if p < 0 ∧ 0 < q ∧ 0 < t then (1 : Int) else if 0 < p ∧ q < 0 ∧ t < 0 then -1 else 0) = if 0 < k then (if 0 < q then (1 : Int) else 0) - (if 0 < p then (1 : Int) else 0) else 0 := by
  have h1 := gp_sgn A q
  have h2 := gp_sgn B p
  have h3 := gp_sgn k t
  generalize A * q = Aq at *
  generalize B * p = Bp at *
  generalize k * t = kt at *
  repeat' split
  all_goals omega
theorem gp_half {u a b : Int × Int} (ha : 0 < gp_f u a) (hb : 0 < gp_f u b) (Ha : gp_H a ≠ 0) (Hb : gp_H b ≠ 0) :
    gp_c a b = if 0 < 64 * u.1 + u.2 then gp_g b - gp_g a else 0 := by
  have id : gp_f u a * gp_H b - gp_f u b * gp_H a = (64 * u.1 + u.2) * gp_x a b := by
    unfold gp_f gp_H gp_x; grind
  exact gp_half' ha hb Ha Hb id
/-- an open half plane holds both: the cross product of two of different heights isn't 0 -/
theorem gp_half0 {u a b : Int × Int} (ha : 0 < gp_f u a) (hb : 0 < gp_f u b) (h : (gp_H a < 0 ∧ 0 < gp_H b) ∨ (0 < gp_H a ∧ gp_H b < 0)) : gp_x a b ≠ 0 := by
  have id : gp_f u a * gp_H b - gp_f u b * gp_H a = (64 * u.1 + u.2) * gp_x a b := by
    unfold gp_f gp_H gp_x; grind
  intro z
  rw [z, Int.mul_zero] at id
  have h1 := gp_sgn (gp_f u a) (gp_H b)
  have h2 := gp_sgn (gp_f u b) (gp_H a)
  omega
theorem gp_c_anti (a b : Int × Int) : gp_c b a = - gp_c a b := by
  unfold gp_c
  rw [gp_xs a b]
  repeat' split
  all_goals omega
theorem gp_c_same {a b : Int × Int} (h : 0 < gp_H a ↔ 0 < gp_H b) (ha : gp_H a ≠ 0) (hb : gp_H b ≠ 0) : gp_c a b = 0 := by
  unfold gp_c
  repeat' split
  all_goals omega
def gp_Sep (q q' p p' : Int × Int) : Prop := ∃ u : Int × Int, 0 < gp_f u (gp_d p q) ∧ 0 < gp_f u (gp_d p q') ∧ 0 < gp_f u (gp_d p' q) ∧ 0 < gp_f u (gp_d p' q')
theorem gp_Sep_sw {q q' p p' : Int × Int} (h : gp_Sep q q' p p') : gp_Sep q' q p p' := by
  obtain ⟨u, a, b, c, d⟩ := h
  exact ⟨u, b, a, d, c⟩
theorem gp_Sep_rev {q q' p p' : Int × Int} (h : gp_Sep q q' p p') : gp_Sep p p' q q' := by
  obtain ⟨u, a, b, c, d⟩ := h
  refine ⟨(-u.1, -u.2), ?_, ?_, ?_, ?_⟩
  all_goals
    unfold gp_f gp_d at *
    dsimp only at *
    grind
theorem gp_quad {q q' p p' : Int × Int} (h : gp_Sep q q' p p') (h1 : gp_H (gp_d p q) ≠ 0) (h2 : gp_H (gp_d p q') ≠ 0) (h3 : gp_H (gp_d p' q) ≠ 0) (h4 : gp_H (gp_d p' q') ≠ 0) :
    gp_c (gp_d p q) (gp_d p' q) - gp_c (gp_d p q') (gp_d p' q') = gp_c (gp_d p q) (gp_d p q') - gp_c (gp_d p' q) (gp_d p' q') := by
  obtain ⟨u, f1, f2, f3, f4⟩ := h
  rw [gp_half f1 f3 h1 h3, gp_half f2 f4 h2 h4, gp_half f1 f2 h1 h2, gp_half f3 f4 h3 h4]
  split <;> omega
/-- not opposite -/
def gp_NF (a b : Int × Int) : Prop := gp_x a b = 0 → (0 < gp_H a ↔ 0 < gp_H b)
theorem gp_tri {a b s : Int × Int} (hs : s = (a.1 + b.1, a.2 + b.2)) (nf : gp_NF a b) (Ha : gp_H a ≠ 0) (Hb : gp_H b ≠ 0) (Hs : gp_H s ≠ 0) :
    gp_c a s + gp_c s b = gp_c a b := by
  rcases Int.lt_trichotomy (gp_x a b) 0 with h | h | h
  · have fa : 0 < gp_f (a.2 - b.2, b.1 - a.1) a := by unfold gp_f; unfold gp_x at h; dsimp only; grind
    have fb : 0 < gp_f (a.2 - b.2, b.1 - a.1) b := by unfold gp_f; unfold gp_x at h; dsimp only; grind
    have fs : 0 < gp_f (a.2 - b.2, b.1 - a.1) s := by rw [hs]; unfold gp_f; unfold gp_x at h; dsimp only; grind
    rw [gp_half fa fs Ha Hs, gp_half fs fb Hs Hb, gp_half fa fb Ha Hb]
    split <;> omega
  · have nf := nf h
    have e : gp_H s = gp_H a + gp_H b := by rw [hs]; unfold gp_H; dsimp only; omega
    rw [gp_c_same (by omega) Ha Hs, gp_c_same (by omega) Hs Hb, gp_c_same nf Ha Hb]; rfl
  · have fa : 0 < gp_f (b.2 - a.2, a.1 - b.1) a := by unfold gp_f; unfold gp_x at h; dsimp only; grind
    have fb : 0 < gp_f (b.2 - a.2, a.1 - b.1) b := by unfold gp_f; unfold gp_x at h; dsimp only; grind
    have fs : 0 < gp_f (b.2 - a.2, a.1 - b.1) s := by rw [hs]; unfold gp_f; unfold gp_x at h; dsimp only; grind
    rw [gp_half fa fs Ha Hs, gp_half fs fb Hs Hb, gp_half fa fb Ha Hb]
    split <;> omega
/-- the negative ray against the positive one -/
theorem gp_c_neg {a b a' b' : Int × Int} (ea : a' = (-a.1, -a.2)) (eb : b' = (-b.1, -b.2)) (nf : gp_NF a b) (Ha : gp_H a ≠ 0) (Hb : gp_H b ≠ 0) :
    gp_c a' b' = gp_c a b + gp_g a - gp_g b := by
  have e1 : gp_H a' = - gp_H a := by rw [ea]; unfold gp_H; dsimp only; omega
  have e2 : gp_H b' = - gp_H b := by rw [eb]; unfold gp_H; dsimp only; omega
  have e3 : gp_x a' b' = gp_x a b := by rw [ea, eb]; unfold gp_x; dsimp only; grind
  unfold gp_NF at nf
  unfold gp_c gp_g
  rw [e1, e2, e3]
  repeat' split
  all_goals omega
theorem gp_NF_neg {a b a' b' : Int × Int} (ea : a' = (-a.1, -a.2)) (eb : b' = (-b.1, -b.2)) (nf : gp_NF a b) (Ha : gp_H a ≠ 0) (Hb : gp_H b ≠ 0) : gp_NF a' b' := by
  have e1 : gp_H a' = - gp_H a := by rw [ea]; unfold gp_H; dsimp only; omega
  have e2 : gp_H b' = - gp_H b := by rw [eb]; unfold gp_H; dsimp only; omega
  have e3 : gp_x a' b' = gp_x a b := by rw [ea, eb]; unfold gp_x; dsimp only; grind
  unfold gp_NF at *
  rw [e1, e2, e3]
  intro z
  have := nf z
  omega
theorem gp_NF_sw {a b : Int × Int} (nf : gp_NF a b) : gp_NF b a := by
  unfold gp_NF at *
  rw [gp_xs a b]
  intro z
  exact (nf (by omega)).symm
/-- a chain of points seen from both ends of a segment that it doesn't meet -/
theorem gp_trans (Q : Nat → Int × Int) (q q' : Int × Int) (k : Nat) (hs : ∀ j, j < k → gp_Sep q q' (Q j) (Q (j + 1)))
    (h1 : ∀ j, j ≤ k → gp_H (gp_d (Q j) q) ≠ 0) (h2 : ∀ j, j ≤ k → gp_H (gp_d (Q j) q') ≠ 0) :
    gp_sm (fun j => gp_c (gp_d (Q j) q) (gp_d (Q (j + 1)) q)) k - gp_sm (fun j => gp_c (gp_d (Q j) q') (gp_d (Q (j + 1)) q')) k
      = gp_c (gp_d (Q 0) q) (gp_d (Q 0) q') - gp_c (gp_d (Q k) q) (gp_d (Q k) q') := by
  induction k with
  | zero => rw [gp_sm_0, gp_sm_0]; omega
  | succ k ih =>
    have a := ih (fun j hj => hs j (by omega)) (fun j hj => h1 j (by omega)) (fun j hj => h2 j (by omega))
    have b := gp_quad (hs k (by omega)) (h1 k (by omega)) (h2 k (by omega)) (h1 (k + 1) (by omega)) (h2 (k + 1) (by omega))
    rw [gp_sm_s, gp_sm_s]
    omega
end
section
/-! proper polygons: the winding number seen from a corner, the number of turns -/
def gp_Poly (P : Nat → Int × Int) (n : Nat) : Prop :=
  3 ≤ n ∧ (∀ i, P (i + n) = P i) ∧ (∀ i j, i < j → j < i + n → gp_H (gp_d (P j) (P i)) ≠ 0) ∧
  (∀ i j, i + 2 ≤ j → j + 2 ≤ i + n → gp_Sep (P i) (P (i + 1)) (P j) (P (j + 1))) ∧
  (∀ i, gp_NF (gp_d (P (i + 1)) (P i)) (gp_d (P (i + 2)) (P (i + 1))))
def gp_e (P : Nat → Int × Int) (i : Nat) : Int × Int := gp_d (P (i + 1)) (P i)
def gp_Phi (P : Nat → Int × Int) (n i : Nat) : Int := gp_sm (fun k => gp_c (gp_d (P (i + 1 + k)) (P i)) (gp_d (P (i + 1 + k + 1)) (P i))) (n - 2)
def gp_Gai (P : Nat → Int × Int) (n i : Nat) : Int := gp_Phi P n (i + 1) + gp_c (gp_e P i) (gp_e P (i + 1)) + gp_g (gp_e P i)
def gp_Ga (P : Nat → Int × Int) (n : Nat) : Int := gp_Gai P n 0
section
variable {P : Nat → Int × Int} {n : Nat}
theorem gp_H_rev {a b : Int × Int} (h : gp_H (gp_d a b) ≠ 0) : gp_H (gp_d b a) ≠ 0 := by rw [gp_Hd] at *; omega
theorem gp_P_H (h : gp_Poly P n) (i j : Nat) (hij : i < j) (hj : j < i + n) : gp_H (gp_d (P j) (P i)) ≠ 0 := h.2.2.1 i j hij hj
theorem gp_P_e (h : gp_Poly P n) (i : Nat) : gp_H (gp_e P i) ≠ 0 := h.2.2.1 i (i + 1) (by omega) (by have := h.1; omega)
theorem gp_P_nf (h : gp_Poly P n) (i : Nat) : gp_NF (gp_e P i) (gp_e P (i + 1)) := h.2.2.2.2 i
theorem gp_Poly_shift (h : gp_Poly P n) (k : Nat) : gp_Poly (fun i => P (i + k)) n := by
  obtain ⟨h1, h2, h3, h4, h5⟩ := h
  refine ⟨h1, fun i => ?_, fun i j a b => h3 (i + k) (j + k) (by omega) (by omega), fun i j a b => ?_, fun i => ?_⟩
  · show P (i + n + k) = P (i + k)
    rw [show i + n + k = i + k + n by omega, h2]
  · have := h4 (i + k) (j + k) (by omega) (by omega)
    rw [show i + k + 1 = i + 1 + k by omega, show j + k + 1 = j + 1 + k by omega] at this
    exact this
  · have := h5 (i + k)
    rw [show i + k + 1 = i + 1 + k by omega, show i + k + 2 = i + 2 + k by omega] at this
    exact this
theorem gp_step (h : gp_Poly P n) (i : Nat) : gp_Gai P n i = gp_Gai P n (i + 1) := by
  have hn := h.1
  obtain ⟨m, rfl⟩ : ∃ m, n = m + 3 := ⟨n - 3, by omega⟩
  have tr := gp_trans (fun j => P (i + 3 + j)) (P (i + 1)) (P (i + 2)) m
    (fun j hj => h.2.2.2.1 (i + 1) (i + 3 + j) (by omega) (by omega))
    (fun j hj => gp_P_H h (i + 1) (i + 3 + j) (by omega) (by omega))
    (fun j hj => gp_P_H h (i + 2) (i + 3 + j) (by omega) (by omega))
  have pe : P (i + 3 + m) = P i := by rw [show i + 3 + m = i + (m + 3) by omega, h.2.1]
  have pe1 : P (i + 3 + m + 1) = P (i + 1) := by rw [show i + 3 + m + 1 = i + 1 + (m + 3) by omega, h.2.1]
  try dsimp only at tr
  rw [pe, Nat.add_zero] at tr
  have F1 : gp_Phi P (m + 3) (i + 1) = gp_c (gp_d (P (i + 2)) (P (i + 1))) (gp_d (P (i + 3)) (P (i + 1))) + gp_sm (fun j => gp_c (gp_d (P (i + 3 + j)) (P (i + 1))) (gp_d (P (i + 3 + (j + 1))) (P (i + 1)))) m := by
    unfold gp_Phi
    rw [show m + 3 - 2 = m + 1 by omega, gp_sm_first]
    refine gp_add2 rfl (gp_sm_congr fun j _ => ?_)
    rw [show i + 1 + 1 + (j + 1) = i + 3 + j by omega]; rfl
  have F2 : gp_Phi P (m + 3) (i + 1 + 1) = gp_sm (fun j => gp_c (gp_d (P (i + 3 + j)) (P (i + 2))) (gp_d (P (i + 3 + (j + 1))) (P (i + 2)))) m + gp_c (gp_d (P i) (P (i + 2))) (gp_d (P (i + 1)) (P (i + 2))) := by
    unfold gp_Phi
    rw [show m + 3 - 2 = m + 1 by omega, gp_sm_s]
    refine gp_add2 (gp_sm_congr fun j _ => rfl) ?_
    rw [show i + 1 + 1 + 1 + m = i + 3 + m by omega, pe, pe1]
  have nfi := gp_P_nf h i
  have H01 : gp_H (gp_d (P i) (P (i + 1))) ≠ 0 := gp_H_rev (gp_P_H h i (i + 1) (by omega) (by omega))
  have H12 : gp_H (gp_d (P (i + 1)) (P (i + 2))) ≠ 0 := gp_H_rev (gp_P_H h (i + 1) (i + 2) (by omega) (by omega))
  have H02 : gp_H (gp_d (P i) (P (i + 2))) ≠ 0 := gp_H_rev (gp_P_H h i (i + 2) (by omega) (by omega))
  have H13 : gp_H (gp_d (P (i + 3)) (P (i + 1))) ≠ 0 := gp_P_H h (i + 1) (i + 3) (by omega) (by omega)
  have neg : ∀ a b : Int × Int, gp_d a b = (-(gp_d b a).1, -(gp_d b a).2) := fun a b => by unfold gp_d; dsimp only; grind
  have t1 : gp_c (gp_e P (i + 1)) (gp_d (P (i + 3)) (P (i + 1))) + gp_c (gp_d (P (i + 3)) (P (i + 1))) (gp_e P (i + 2)) = gp_c (gp_e P (i + 1)) (gp_e P (i + 2)) :=
    gp_tri (by unfold gp_e gp_d; dsimp only; grind) (gp_P_nf h (i + 1)) (gp_P_e h _) (gp_P_e h _) H13
  have t2 : gp_c (gp_d (P i) (P (i + 1))) (gp_d (P i) (P (i + 2))) + gp_c (gp_d (P i) (P (i + 2))) (gp_d (P (i + 1)) (P (i + 2))) = gp_c (gp_d (P i) (P (i + 1))) (gp_d (P (i + 1)) (P (i + 2))) :=
    gp_tri (by unfold gp_d; dsimp only; grind) (gp_NF_neg (neg _ _) (neg _ _) nfi (gp_P_e h _) (gp_P_e h _)) H01 H12 H02
  have t3 : gp_c (gp_d (P i) (P (i + 1))) (gp_d (P (i + 1)) (P (i + 2))) = gp_c (gp_e P i) (gp_e P (i + 1)) + gp_g (gp_e P i) - gp_g (gp_e P (i + 1)) :=
    gp_c_neg (neg _ _) (neg _ _) nfi (gp_P_e h _) (gp_P_e h _)
  unfold gp_Gai
  rw [F1, F2]
  have e1 : gp_d (P (i + 2)) (P (i + 1)) = gp_e P (i + 1) := rfl
  have e2 : gp_d (P (i + 3)) (P (i + 2)) = gp_e P (i + 2) := rfl
  rw [e1]
  rw [e2] at tr
  have e3 : gp_e P (i + 1 + 1) = gp_e P (i + 2) := rfl
  rw [e3]
  omega
theorem gp_Gai_const (h : gp_Poly P n) (i : Nat) : gp_Gai P n i = gp_Ga P n := by
  induction i with
  | zero => rfl
  | succ i ih => rw [← gp_step h, ih]
theorem gp_e_per (h : gp_Poly P n) (i : Nat) : gp_e P (i + n) = gp_e P i := by
  unfold gp_e
  rw [show i + n + 1 = i + 1 + n by omega, h.2.1, h.2.1]
/-- at the lowest corner -/
theorem gp_low (h : gp_Poly P n) (i : Nat) (hl : ∀ j, 0 ≤ gp_H (gp_d (P j) (P (i + 1)))) :
    gp_Ga P n = gp_c (gp_e P i) (gp_e P (i + 1)) ∧ gp_H (gp_e P i) < 0 ∧ 0 < gp_H (gp_e P (i + 1)) ∧ gp_Phi P n (i + 1) = 0 := by
  have hn := h.1
  have z : gp_Phi P n (i + 1) = 0 := gp_sm_zero fun k hk => by
    have a := hl (i + 1 + 1 + k)
    have b := hl (i + 1 + 1 + k + 1)
    have a' := gp_P_H h (i + 1) (i + 1 + 1 + k) (by omega) (by omega)
    have b' := gp_P_H h (i + 1) (i + 1 + 1 + k + 1) (by omega) (by omega)
    exact gp_c_same (by omega) a' b'
  have a : gp_H (gp_e P i) < 0 := by
    have := hl i
    have e := gp_P_e h i
    unfold gp_e at *
    rw [gp_Hd] at *
    omega
  have b : 0 < gp_H (gp_e P (i + 1)) := by
    have := hl (i + 1 + 1)
    have e := gp_P_e h (i + 1)
    unfold gp_e at *
    omega
  refine ⟨?_, a, b, z⟩
  rw [← gp_Gai_const h i]
  unfold gp_Gai gp_g
  rw [z, if_neg (by omega)]
  omega
theorem gp_low_ex (h : gp_Poly P n) : ∃ m, m < n ∧ ∀ j, 0 ≤ gp_H (gp_d (P j) (P m)) := by
  have hn := h.1
  obtain ⟨m, hm, hl⟩ := gp_min (fun i => gp_H (P i)) n (by omega)
  refine ⟨m, hm, fun j => ?_⟩
  have e : P j = P (j % n) := by
    have : ∀ k, P (j % n + n * k) = P (j % n) := by
      intro k
      induction k with
      | zero => rfl
      | succ k ih => rw [Nat.mul_succ, ← Nat.add_assoc, h.2.1, ih]
    have q := this (j / n)
    rw [Nat.mod_add_div] at q
    exact q
  have := hl (j % n) (Nat.mod_lt _ (by omega))
  rw [gp_Hd, e]
  try dsimp only at this
  omega
theorem gp_Ga_01 (h : gp_Poly P n) : gp_Ga P n = 0 ∨ gp_Ga P n = 1 := by
  obtain ⟨m, hm, hl⟩ := gp_low_ex h
  have hn := h.1
  obtain ⟨i, hi⟩ : ∃ i, i + 1 = m + n := ⟨m + n - 1, by omega⟩
  have e : P (i + 1) = P m := by rw [hi, h.2.1]
  obtain ⟨a, b, c, _⟩ := gp_low h i (fun j => by rw [e]; exact hl j)
  rw [a]
  unfold gp_c
  repeat' split
  all_goals omega
/-- the number of turns, from the lowest corner on -/
theorem gp_uml0 (h : gp_Poly P n) (hl : ∀ j, 0 ≤ gp_H (gp_d (P j) (P 0))) (k : Nat) (hk : k + 2 ≤ n) :
    gp_sm (fun j => gp_c (gp_d (P (n - k + j)) (P (n - 1 - k))) (gp_d (P (n - k + (j + 1))) (P (n - 1 - k)))) k
      = gp_sm (fun j => gp_c (gp_e P (n - 1 - k + j)) (gp_e P (n - 1 - k + (j + 1)))) k := by
  induction k with
  | zero => rfl
  | succ k ih =>
    have ih := ih (by omega)
    obtain ⟨i, hi⟩ : ∃ i, n = i + k + 2 := ⟨n - k - 2, by omega⟩
    have pn : P (i + 2 + k) = P 0 := by rw [show i + 2 + k = 0 + n by omega, h.2.1]
    rw [show n - k = i + 2 by omega, show n - 1 - k = i + 1 by omega] at ih
    rw [show n - (k + 1) = i + 1 by omega, show n - 1 - (k + 1) = i by omega, gp_sm_first, gp_sm_first]
    have tr := gp_trans (fun j => P (i + 2 + j)) (P i) (P (i + 1)) k
      (fun j hj => h.2.2.2.1 i (i + 2 + j) (by omega) (by omega))
      (fun j hj => gp_P_H h i (i + 2 + j) (by omega) (by omega))
      (fun j hj => gp_P_H h (i + 1) (i + 2 + j) (by omega) (by omega))
    try dsimp only at tr
    rw [pn, Nat.add_zero] at tr
    have l1 := hl i
    have l2 := hl (i + 1)
    have l1' := gp_H_rev (gp_P_H h 0 i (by omega) (by omega))
    have l2' := gp_H_rev (gp_P_H h 0 (i + 1) (by omega) (by omega))
    have z : gp_c (gp_d (P 0) (P i)) (gp_d (P 0) (P (i + 1))) = 0 :=
      gp_c_same (by rw [gp_Hd] at *; rw [gp_Hd] at *; omega) l1' l2'
    have t1 : gp_c (gp_e P i) (gp_d (P (i + 2)) (P i)) + gp_c (gp_d (P (i + 2)) (P i)) (gp_e P (i + 1)) = gp_c (gp_e P i) (gp_e P (i + 1)) :=
      gp_tri (by unfold gp_e gp_d; dsimp only; grind) (gp_P_nf h i) (gp_P_e h _) (gp_P_e h _) (gp_P_H h i (i + 2) (by omega) (by omega))
    have s1 : gp_sm (fun j => gp_c (gp_d (P (i + 1 + (j + 1))) (P i)) (gp_d (P (i + 1 + (j + 1 + 1))) (P i))) k = gp_sm (fun j => gp_c (gp_d (P (i + 2 + j)) (P i)) (gp_d (P (i + 2 + (j + 1))) (P i))) k :=
      gp_sm_congr fun j _ => by rw [show i + 1 + (j + 1) = i + 2 + j by omega, show i + 1 + (j + 1 + 1) = i + 2 + (j + 1) by omega]
    have s2 : gp_sm (fun j => gp_c (gp_e P (i + (j + 1))) (gp_e P (i + (j + 1 + 1)))) k = gp_sm (fun j => gp_c (gp_e P (i + 1 + j)) (gp_e P (i + 1 + (j + 1)))) k :=
      gp_sm_congr fun j _ => by rw [show i + (j + 1) = i + 1 + j by omega, show i + (j + 1 + 1) = i + 1 + (j + 1) by omega]
    rw [s1, s2]
    have e1 : gp_d (P (i + 1 + 0)) (P i) = gp_e P i := rfl
    have e2 : gp_d (P (i + 1 + (0 + 1))) (P i) = gp_d (P (i + 2)) (P i) := rfl
    have e3 : gp_e P (i + 0) = gp_e P i := rfl
    have e4 : gp_e P (i + (0 + 1)) = gp_e P (i + 1) := rfl
    have e5 : gp_d (P (i + 2)) (P (i + 1)) = gp_e P (i + 1) := rfl
    rw [e1, e2, e3, e4]
    rw [e5] at tr
    omega
theorem gp_uml1 (h : gp_Poly P n) (hl : ∀ j, 0 ≤ gp_H (gp_d (P j) (P 0))) :
    gp_sm (fun i => gp_c (gp_e P i) (gp_e P (i + 1))) n = 2 * gp_Ga P n - 1 := by
  have hn := h.1
  obtain ⟨m, rfl⟩ : ∃ m, n = m + 2 := ⟨n - 2, by omega⟩
  have u := gp_uml0 h hl m (by omega)
  rw [show m + 2 - m = 2 by omega, show m + 2 - 1 - m = 1 by omega] at u
  have f : gp_Phi P (m + 2) 1 = gp_sm (fun j => gp_c (gp_d (P (2 + j)) (P 1)) (gp_d (P (2 + (j + 1))) (P 1))) m := by
    unfold gp_Phi
    exact gp_sm_congr fun j _ => rfl
  have l := gp_low h (m + 1) (fun j => by rw [show m + 1 + 1 = 0 + (m + 2) by omega, h.2.1]; exact hl j)
  have ep : gp_e P (m + 1 + 1) = gp_e P 0 := by rw [show m + 1 + 1 = 0 + (m + 2) by omega, gp_e_per h]
  have g0 : gp_Ga P (m + 2) = gp_Phi P (m + 2) 1 + gp_c (gp_e P 0) (gp_e P 1) + gp_g (gp_e P 0) := rfl
  have gg : gp_g (gp_e P 0) = 1 := by
    unfold gp_g
    rw [if_pos]
    have := l.2.2.1
    rw [ep] at this
    exact this
  rw [gp_sm_s, gp_sm_first]
  have s : gp_sm (fun j => gp_c (gp_e P (1 + j)) (gp_e P (1 + (j + 1)))) m = gp_sm (fun i => gp_c (gp_e P (i + 1)) (gp_e P (i + 1 + 1))) m :=
    gp_sm_congr fun j _ => by rw [show 1 + j = j + 1 by omega, show 1 + (j + 1) = j + 1 + 1 by omega]
  rw [s] at u
  have l1 := l.1
  rw [ep] at *
  have e0 : gp_e P (0 + 1) = gp_e P 1 := rfl
  rw [e0]
  omega
theorem gp_Ga_shift (h : gp_Poly P n) (k : Nat) : gp_Ga (fun i => P (i + k)) n = gp_Ga P n := by
  rw [← gp_Gai_const h k]
  unfold gp_Ga gp_Gai gp_Phi gp_e
  dsimp only
  rw [show 0 + 1 + k = k + 1 by omega, show 0 + 1 + 1 + k = k + 1 + 1 by omega, show 0 + k = k by omega]
  refine gp_add2 (gp_add2 (gp_sm_congr fun j _ => ?_) rfl) rfl
  rw [show 0 + 1 + 1 + j + k = k + 1 + 1 + j by omega, show 0 + 1 + 1 + j + 1 + k = k + 1 + 1 + j + 1 by omega]
theorem gp_uml (h : gp_Poly P n) : gp_sm (fun i => gp_c (gp_e P i) (gp_e P (i + 1))) n = 2 * gp_Ga P n - 1 := by
  obtain ⟨m, hm, hl⟩ := gp_low_ex h
  have h' := gp_Poly_shift h m
  have u := gp_uml1 h' (fun j => by
    show 0 ≤ gp_H (gp_d (P (j + m)) (P (0 + m)))
    rw [Nat.zero_add]
    exact hl (j + m))
  rw [gp_Ga_shift h] at u
  rw [← u, ← gp_sm_per (fun i => gp_c (gp_e P i) (gp_e P (i + 1))) n (fun i => by
    show gp_c (gp_e P (i + n)) (gp_e P (i + n + 1)) = _
    rw [gp_e_per h, show i + n + 1 = i + 1 + n by omega, gp_e_per h]) m]
  refine gp_sm_congr fun i _ => ?_
  show gp_c (gp_d (P (i + m + 1)) (P (i + m))) (gp_d (P (i + m + 1 + 1)) (P (i + m + 1))) = gp_c (gp_d (P (i + 1 + m)) (P (i + m))) (gp_d (P (i + 1 + 1 + m)) (P (i + 1 + m)))
  rw [show i + m + 1 = i + 1 + m by omega, show i + 1 + m + 1 = i + 1 + 1 + m by omega]
end
end
section
/-! points on sides, winding numbers of points -/
abbrev gp_On (z a b : Int × Int) : Prop := gp_x (gp_d z a) (gp_d b a) = 0 ∧ ((gp_H a < gp_H z ∧ gp_H z < gp_H b) ∨ (gp_H b < gp_H z ∧ gp_H z < gp_H a))
def gp_w (P : Nat → Int × Int) (n : Nat) (m : Int × Int) : Int := gp_sm (fun k => gp_c (gp_d (P k) m) (gp_d (P (k + 1)) m)) n
theorem gp_par {u v : Int × Int} (h : gp_x u v = 0) (w : Int × Int) : gp_f w u * gp_H v = gp_H u * gp_f w v := by
  have id : gp_f w u * gp_H v - gp_f w v * gp_H u = (64 * w.1 + w.2) * gp_x u v := by
    unfold gp_f gp_H gp_x; grind
  rw [h, Int.mul_zero, Int.mul_comm (gp_f w v)] at id
  omega
theorem gp_parx {u v : Int × Int} (h : gp_x u v = 0) (b : Int × Int) : gp_x u b * gp_H v = gp_H u * gp_x v b := by
  have e : ∀ y : Int × Int, gp_x y b = gp_f (b.2, -b.1) y := fun y => by unfold gp_x gp_f; dsimp only; grind
  rw [e, e]
  exact gp_par h _
theorem gp_conv {A B C p q : Int} (id : (A - C) * q = p * (A - B)) (hA : 0 < A) (hB : 0 < B) (h : (0 < p ∧ p < q) ∨ (q < p ∧ p < 0)) : 0 < C := by
  have e : C * q = (q - p) * A + p * B := by grind
  have h1 := gp_sgn C q
  have h2 := gp_sgn (q - p) A
  have h3 := gp_sgn p B
  omega
theorem gp_On_f {z a b p w : Int × Int} (hz : gp_On z a b) (ha : 0 < gp_f w (gp_d p a)) (hb : 0 < gp_f w (gp_d p b)) : 0 < gp_f w (gp_d p z) := by
  have id := gp_par hz.1 w
  have o := hz.2
  rw [gp_Hd, gp_Hd, gp_fd, gp_fd] at id
  rw [gp_fd] at ha hb ⊢
  refine gp_conv (A := gp_f w p - gp_f w a) (B := gp_f w p - gp_f w b) (p := gp_H z - gp_H a) (q := gp_H b - gp_H a) ?_ ha hb (by omega)
  grind
theorem gp_On_sw {z a b : Int × Int} (h : gp_On z a b) : gp_On z b a := by
  refine ⟨?_, ?_⟩
  · have := h.1
    unfold gp_x gp_d at *
    dsimp only at *
    grind
  · have := h.2
    omega
theorem gp_On_Sep {z a b p p' : Int × Int} (hz : gp_On z a b) (h : gp_Sep a b p p') : gp_Sep z b p p' := by
  obtain ⟨u, h1, h2, h3, h4⟩ := h
  exact ⟨u, gp_On_f hz h1 h2, h2, gp_On_f hz h3 h4, h4⟩
theorem gp_SepAdj {p a b z : Int × Int} (nf : gp_NF (gp_d a p) (gp_d b a)) (h1 : gp_H (gp_d a p) ≠ 0) (h2 : gp_H (gp_d b a) ≠ 0) (hz : gp_On z a b) : gp_Sep z b p a := by
  have px := gp_parx hz.1 (gp_d a p)
  have o := hz.2
  have s1 := gp_sgn (gp_x (gp_d z a) (gp_d a p)) (gp_H (gp_d b a))
  have s2 := gp_sgn (gp_H (gp_d z a)) (gp_x (gp_d b a) (gp_d a p))
  rw [px] at s1
  have hza := gp_Hd z a
  have hba := gp_Hd b a
  have hap := gp_Hd a p
  have r1 : gp_x (gp_d b a) (gp_d a p) = - gp_x (gp_d a p) (gp_d b a) := gp_xs _ _
  have r2 : gp_x (gp_d z a) (gp_d a p) = - gp_x (gp_d a p) (gp_d z a) := gp_xs _ _
  rcases Int.lt_trichotomy (gp_x (gp_d a p) (gp_d b a)) 0 with h | h | h
  · have k : gp_x (gp_d a p) (gp_d z a) < 0 := by omega
    refine ⟨(-(gp_d a p).2, (gp_d a p).1), ?_, ?_, ?_, ?_⟩
    all_goals
      unfold gp_f
      unfold gp_x gp_d at h k
      unfold gp_d
      dsimp only at *
      clear px s1 s2 r1 r2 o hza hba hap nf h1 h2 hz
      grind
  · have nf := nf h
    by_cases s : 0 < gp_H (gp_d b a)
    · refine ⟨(1, -64), ?_, ?_, ?_, ?_⟩
      all_goals
        have e : ∀ y : Int × Int, gp_f (1, -64) y = - gp_H y := fun y => by unfold gp_f gp_H; dsimp only; omega
        rw [e, gp_Hd]
        omega
    · refine ⟨(-1, 64), ?_, ?_, ?_, ?_⟩
      all_goals
        have e : ∀ y : Int × Int, gp_f (-1, 64) y = gp_H y := fun y => by unfold gp_f gp_H; dsimp only; omega
        rw [e, gp_Hd]
        omega
  · have k : 0 < gp_x (gp_d a p) (gp_d z a) := by omega
    refine ⟨((gp_d a p).2, -(gp_d a p).1), ?_, ?_, ?_, ?_⟩
    all_goals
      unfold gp_f
      unfold gp_x gp_d at h k
      unfold gp_d
      dsimp only at *
      clear px s1 s2 r1 r2 o hza hba hap nf h1 h2 hz
      grind
section
variable {P : Nat → Int × Int} {n : Nat}
theorem gp_prev (h : gp_Poly P n) (i : Nat) : P (i + n - 1 + 1) = P i ∧ gp_d (P i) (P (i + n - 1)) = gp_e P (i + n - 1) ∧ gp_NF (gp_d (P i) (P (i + n - 1))) (gp_d (P (i + 1)) (P i)) := by
  have hn := h.1
  have e : P (i + n - 1 + 1) = P i := by rw [show i + n - 1 + 1 = i + n by omega, h.2.1]
  have e2 : P (i + n - 1 + 2) = P (i + 1) := by rw [show i + n - 1 + 2 = i + 1 + n by omega, h.2.1]
  refine ⟨e, ?_, ?_⟩
  · unfold gp_e; rw [e]
  · have := h.2.2.2.2 (i + n - 1)
    rw [e, e2] at this
    exact this
/-- a point on a side is seen from the other sides by a functional -/
theorem gp_seen (h : gp_Poly P n) (i : Nat) {z : Int × Int} (hz : gp_On z (P i) (P (i + 1))) (k : Nat) (h1 : i + 1 ≤ k) (h2 : k + 1 ≤ i + n) :
    ∃ u : Int × Int, 0 < gp_f u (gp_d (P k) z) ∧ 0 < gp_f u (gp_d (P (k + 1)) z) := by
  have hn := h.1
  by_cases c1 : k = i + 1
  · subst c1
    have nf := gp_P_nf h i
    have neg : ∀ a b : Int × Int, gp_d a b = (-(gp_d b a).1, -(gp_d b a).2) := fun a b => by unfold gp_d; dsimp only; grind
    have nf' : gp_NF (gp_d (P (i + 1)) (P (i + 2))) (gp_d (P i) (P (i + 1))) := gp_NF_neg (neg _ _) (neg _ _) (gp_NF_sw nf) (gp_P_e h _) (gp_P_e h _)
    obtain ⟨u, a, _, b, _⟩ := gp_SepAdj nf' (gp_H_rev (gp_P_H h (i + 1) (i + 2) (by omega) (by omega))) (gp_H_rev (gp_P_e h i)) (gp_On_sw hz)
    exact ⟨u, b, a⟩
  · by_cases c2 : k + 1 = i + n
    · obtain ⟨e, e2, nf⟩ := gp_prev h i
      obtain ⟨u, a, _, b, _⟩ := gp_SepAdj nf (by rw [e2]; exact gp_P_e h _) (gp_P_e h i) hz
      rw [show k + 1 = i + n by omega, h.2.1, show k = i + n - 1 by omega]
      exact ⟨u, a, b⟩
    · obtain ⟨u, a, _, b, _⟩ := gp_On_Sep hz (h.2.2.2.1 i k (by omega) (by omega))
      exact ⟨u, a, b⟩
theorem gp_onedge (h : gp_Poly P n) (i : Nat) {z : Int × Int} (hz : gp_On z (P i) (P (i + 1))) (hH : ∀ j, i + 1 < j → j < i + n → gp_H (gp_d (P j) z) ≠ 0) :
    gp_sm (fun k => gp_c (gp_d (P (i + 1 + k)) z) (gp_d (P (i + 1 + (k + 1))) z)) (n - 1) = gp_Ga P n - gp_g (gp_e P i) := by
  have hn := h.1
  obtain ⟨m, rfl⟩ : ∃ m, n = m + 2 := ⟨n - 2, by omega⟩
  have o := hz.2
  have Hi : gp_H (gp_d (P i) z) ≠ 0 := by rw [gp_Hd]; omega
  have Hi1 : gp_H (gp_d (P (i + 1)) z) ≠ 0 := by rw [gp_Hd]; omega
  have pe : P (i + 2 + m) = P i := by rw [show i + 2 + m = i + (m + 2) by omega, h.2.1]
  have tr := gp_trans (fun j => P (i + 2 + j)) z (P (i + 1)) m
    (fun j hj => by
      by_cases c2 : j + 1 = m
      · obtain ⟨e, e2, nf⟩ := gp_prev h i
        have s := gp_SepAdj nf (by rw [e2]; exact gp_P_e h _) (gp_P_e h i) hz
        have q1 : P (i + 2 + j) = P (i + (m + 2) - 1) := congrArg P (by omega)
        have q2 : P (i + 2 + (j + 1)) = P i := by rw [show i + 2 + (j + 1) = i + 2 + m by omega, pe]
        show gp_Sep z (P (i + 1)) (P (i + 2 + j)) (P (i + 2 + (j + 1)))
        rw [q1, q2]
        exact s
      · exact gp_On_Sep hz (h.2.2.2.1 i (i + 2 + j) (by omega) (by omega)))
    (fun j hj => by
      show gp_H (gp_d (P (i + 2 + j)) z) ≠ 0
      by_cases c : j = m
      · rw [c, pe]; exact Hi
      · exact hH (i + 2 + j) (by omega) (by omega))
    (fun j hj => gp_P_H h (i + 1) (i + 2 + j) (by omega) (by omega))
  try dsimp only at tr
  rw [pe, Nat.add_zero] at tr
  have F : gp_Phi P (m + 2) (i + 1) = gp_sm (fun j => gp_c (gp_d (P (i + 2 + j)) (P (i + 1))) (gp_d (P (i + 2 + (j + 1))) (P (i + 1)))) m := by
    unfold gp_Phi
    exact gp_sm_congr fun j _ => rfl
  rw [show m + 2 - 1 = m + 1 by omega, gp_sm_first]
  have s1 : gp_sm (fun k => gp_c (gp_d (P (i + 1 + (k + 1))) z) (gp_d (P (i + 1 + (k + 1 + 1))) z)) m = gp_sm (fun j => gp_c (gp_d (P (i + 2 + j)) z) (gp_d (P (i + 2 + (j + 1))) z)) m :=
    gp_sm_congr fun j _ => by rw [show i + 1 + (j + 1) = i + 2 + j by omega, show i + 1 + (j + 1 + 1) = i + 2 + (j + 1) by omega]
  have z1 : gp_c (gp_d (P i) z) (gp_d (P i) (P (i + 1))) = 0 := by
    refine gp_c_same ?_ Hi (gp_H_rev (gp_P_e h i))
    rw [gp_Hd, gp_Hd]
    omega
  have sg := gp_parx (u := gp_d (P (i + 1)) z) (v := gp_e P i) (by
    have := hz.1
    unfold gp_e gp_x gp_d at *
    dsimp only at *
    grind) (gp_e P (i + 1))
  have sg1 := gp_sgn (gp_x (gp_d (P (i + 1)) z) (gp_e P (i + 1))) (gp_H (gp_e P i))
  have sg2 := gp_sgn (gp_H (gp_d (P (i + 1)) z)) (gp_x (gp_e P i) (gp_e P (i + 1)))
  rw [sg] at sg1
  have Ha : gp_H (gp_d (P (i + 1)) z) = gp_H (P (i + 1)) - gp_H z := gp_Hd _ _
  have He : gp_H (gp_e P i) = gp_H (P (i + 1)) - gp_H (P i) := gp_Hd _ _
  have nf : gp_NF (gp_d (P (i + 1)) z) (gp_e P (i + 1)) := by
    have nf := gp_P_nf h i
    unfold gp_NF at *
    intro q
    have := nf (by omega)
    omega
  have H2 : gp_H (gp_d (P (i + 2)) z) ≠ 0 := hH (i + 2) (by omega) (by omega)
  have t1 : gp_c (gp_d (P (i + 1)) z) (gp_d (P (i + 2)) z) + gp_c (gp_d (P (i + 2)) z) (gp_e P (i + 1)) = gp_c (gp_d (P (i + 1)) z) (gp_e P (i + 1)) :=
    gp_tri (by unfold gp_e gp_d; dsimp only; grind) nf Hi1 (gp_P_e h _) H2
  have t2 : gp_c (gp_d (P (i + 1)) z) (gp_e P (i + 1)) = gp_c (gp_e P i) (gp_e P (i + 1)) := by
    unfold gp_c
    clear t1 nf z1 s1 F tr hH
    repeat' split
    all_goals omega
  have G := gp_Gai_const h i
  unfold gp_Gai at G
  rw [s1]
  have e5 : gp_d (P (i + 2)) (P (i + 1)) = gp_e P (i + 1) := rfl
  rw [e5] at tr
  have e6 : gp_c (gp_d (P (i + 1 + 0)) z) (gp_d (P (i + 1 + (0 + 1))) z) = gp_c (gp_d (P (i + 1)) z) (gp_d (P (i + 2)) z) := rfl
  rw [e6]
  omega
theorem gp_P_mod (hper : ∀ i, P (i + n) = P i) (j : Nat) : P j = P (j % n) := by
  have : ∀ k, P (j % n + n * k) = P (j % n) := by
    intro k
    induction k with
    | zero => rfl
    | succ k ih => rw [Nat.mul_succ, ← Nat.add_assoc, hper, ih]
  have q := this (j / n)
  rw [Nat.mod_add_div] at q
  exact q
theorem gp_P_mod1 (hper : ∀ i, P (i + n) = P i) (j : Nat) : P (j + 1) = P (j % n + 1) := by
  have : ∀ k, P (j % n + n * k + 1) = P (j % n + 1) := by
    intro k
    induction k with
    | zero => rfl
    | succ k ih => rw [Nat.mul_succ, ← Nat.add_assoc, show j % n + n * k + n + 1 = j % n + n * k + 1 + n by omega, hper, ih]
  have q := this (j / n)
  rw [Nat.mod_add_div] at q
  exact q
end
theorem gp_argmin (R : Nat → Prop) (N D : Nat → Int) (hD : ∀ j, R j → 0 < D j) (n : Nat) (h : ∃ j, j < n ∧ R j) :
    ∃ i, i < n ∧ R i ∧ ∀ k, k < n → R k → N i * D k ≤ N k * D i := by
  induction n with
  | zero => obtain ⟨j, hj, _⟩ := h; omega
  | succ n ih =>
    by_cases c : ∃ j, j < n ∧ R j
    · obtain ⟨i, hi, ri, hm⟩ := ih c
      by_cases rn : R n
      · by_cases cmp : N i * D n ≤ N n * D i
        · refine ⟨i, by omega, ri, fun k hk rk => ?_⟩
          by_cases e : k = n
          · subst e; exact cmp
          · exact hm k (by omega) rk
        · refine ⟨n, by omega, rn, fun k hk rk => ?_⟩
          by_cases e : k = n
          · subst e; exact Int.le_refl _
          · have a := hm k (by omega) rk
            have dk := hD k rk
            have di := hD i ri
            have dn := hD n rn
            have b : N n * D i ≤ N i * D n := by omega
            have b1 : N n * D i * D k ≤ N i * D n * D k := Int.mul_le_mul_of_nonneg_right b (by omega)
            have a1 : N i * D k * D n ≤ N k * D i * D n := Int.mul_le_mul_of_nonneg_right a (by omega)
            have f : N n * D k * D i ≤ N k * D n * D i := by
              have e1 : N n * D k * D i = N n * D i * D k := by grind
              have e2 : N i * D n * D k = N i * D k * D n := by grind
              have e3 : N k * D i * D n = N k * D n * D i := by grind
              omega
            exact Int.le_of_mul_le_mul_right f di
      · refine ⟨i, by omega, ri, fun k hk rk => ?_⟩
        by_cases e : k = n
        · subst e; exact absurd rk rn
        · exact hm k (by omega) rk
    · obtain ⟨j, hj, rj⟩ := h
      have : j = n := by
        by_cases e : j = n
        · exact e
        · exact absurd ⟨j, by omega, rj⟩ c
      subst this
      refine ⟨j, by omega, rj, fun k hk rk => ?_⟩
      by_cases e : k = j
      · subst e; exact Int.le_refl _
      · exact absurd ⟨k, by omega, rk⟩ c
end
section
/-! the winding number of a point off the sides is 0 or the sense of the polygon -/
def gp_k (D : Int) (a : Int × Int) : Int × Int := (D * a.1, D * a.2)
theorem gp_Hk (D : Int) (a : Int × Int) : gp_H (gp_k D a) = D * gp_H a := by unfold gp_H gp_k; (try dsimp only); grind
theorem gp_kd (D : Int) (a b : Int × Int) : gp_d (gp_k D a) (gp_k D b) = gp_k D (gp_d a b) := by unfold gp_d gp_k; (try dsimp only); grind
theorem gp_xk (D : Int) (a b : Int × Int) : gp_x (gp_k D a) (gp_k D b) = D * D * gp_x a b := by unfold gp_x gp_k; (try dsimp only); grind
theorem gp_fk (D : Int) (u a : Int × Int) : gp_f u (gp_k D a) = D * gp_f u a := by unfold gp_f gp_k; (try dsimp only); grind
theorem gp_spos {D a : Int} (hD : 0 < D) : (0 < D * a ↔ 0 < a) ∧ (D * a < 0 ↔ a < 0) ∧ (D * a = 0 ↔ a = 0) := by
  have := gp_sgn D a
  omega
theorem gp_ck {D : Int} (hD : 0 < D) (a b : Int × Int) : gp_c (gp_k D a) (gp_k D b) = gp_c a b := by
  unfold gp_c
  rw [gp_Hk, gp_Hk, gp_xk]
  have h1 := gp_spos (a := gp_H a) hD
  have h2 := gp_spos (a := gp_H b) hD
  have h3 := gp_spos (a := gp_x a b) (Int.mul_pos hD hD)
  generalize D * gp_H a = A at *
  generalize D * gp_H b = B at *
  generalize D * D * gp_x a b = C at *
  repeat' split
  all_goals omega
theorem gp_gk {D : Int} (hD : 0 < D) (a : Int × Int) : gp_g (gp_k D a) = gp_g a := by
  unfold gp_g
  rw [gp_Hk]
  have h1 := gp_spos (a := gp_H a) hD
  generalize D * gp_H a = A at *
  repeat' split
  all_goals omega
section
variable {P : Nat → Int × Int} {n : Nat}
theorem gp_Poly_k (h : gp_Poly P n) {D : Int} (hD : 0 < D) : gp_Poly (fun i => gp_k D (P i)) n := by
  obtain ⟨h1, h2, h3, h4, h5⟩ := h
  refine ⟨h1, fun i => by dsimp only; rw [h2], fun i j a b => ?_, fun i j a b => ?_, fun i => ?_⟩
  · try dsimp only
    rw [gp_kd, gp_Hk]
    have := gp_spos (a := gp_H (gp_d (P j) (P i))) hD
    have := h3 i j a b
    omega
  · obtain ⟨u, a, b, c, d⟩ := h4 i j a b
    refine ⟨u, ?_, ?_, ?_, ?_⟩
    all_goals
      try dsimp only
      rw [gp_kd, gp_fk]
      exact Int.mul_pos hD (by assumption)
  · have := h5 i
    unfold gp_NF at *
    try dsimp only
    rw [gp_kd, gp_kd, gp_xk, gp_Hk, gp_Hk]
    have s1 := gp_spos (a := gp_x (gp_d (P (i + 1)) (P i)) (gp_d (P (i + 2)) (P (i + 1)))) (Int.mul_pos hD hD)
    have s2 := gp_spos (a := gp_H (gp_d (P (i + 1)) (P i))) hD
    have s3 := gp_spos (a := gp_H (gp_d (P (i + 2)) (P (i + 1)))) hD
    intro z
    have := this (by omega)
    omega
theorem gp_Ga_k {D : Int} (hD : 0 < D) : gp_Ga (fun i => gp_k D (P i)) n = gp_Ga P n := by
  unfold gp_Ga gp_Gai gp_Phi gp_e
  try dsimp only
  rw [gp_kd, gp_kd, gp_ck hD, gp_gk hD]
  refine gp_add2 (gp_add2 (gp_sm_congr fun j _ => ?_) rfl) rfl
  rw [gp_kd, gp_kd, gp_ck hD]
theorem gp_w_k {D : Int} (hD : 0 < D) (m : Int × Int) : gp_w (fun i => gp_k D (P i)) n (gp_k D m) = gp_w P n m := by
  unfold gp_w
  refine gp_sm_congr fun j _ => ?_
  rw [gp_kd, gp_kd, gp_ck hD]
/-- c of a side seen from the point where the ray from m first meets a side -/
theorem gp_hit {D N C h p q X : Int} (hD : 0 < D) (hN : 0 < N) (hh : h = q - p) (hX : X = D * (D * C - N * h))
    (hn : (p < 0 ∧ 0 < q) ∨ (0 < p ∧ q < 0) → X ≠ 0)
    (hmin : (p < 0 ∧ 0 < q ∧ 0 < C) → N * h ≤ C * D) (hmin' : (0 < p ∧ q < 0 ∧ C < 0) → N * (-h) ≤ (-C) * D) :
    (if D * p < 0 ∧ 0 < D * q ∧ 0 < X then (1 : Int) else if 0 < D * p ∧ D * q < 0 ∧ X < 0 then -1 else 0)
      = if p < 0 ∧ 0 < q ∧ 0 < C then (1 : Int) else if 0 < p ∧ q < 0 ∧ C < 0 then -1 else 0 := by
  have s1 := gp_spos (a := p) hD
  have s2 := gp_spos (a := q) hD
  have s3 := gp_spos (a := D * C - N * h) hD
  have s4 := gp_spos (a := C) hD
  have s5 := gp_spos (a := h) hN
  rw [← hX] at s3
  rw [Int.mul_neg] at hmin'
  rw [Int.neg_mul] at hmin'
  rw [Int.mul_comm C D] at hmin hmin'
  clear hX
  generalize D * p = A at *
  generalize D * q = B at *
  generalize D * C = E at *
  generalize N * h = F at *
  repeat' split
  all_goals omega
theorem gp_wind (h : gp_Poly P n) (m : Int × Int) (hH : ∀ j, gp_H (gp_d (P j) m) ≠ 0) :
    gp_w P n m = 0 ∨ gp_w P n m = 2 * gp_Ga P n - 1 := by
  have hn := h.1
  by_cases c : ∃ j, j < n ∧ gp_c (gp_d (P j) m) (gp_d (P (j + 1)) m) ≠ 0
  · obtain ⟨i, hi, ri, hmin⟩ := gp_argmin (fun j => gp_c (gp_d (P j) m) (gp_d (P (j + 1)) m) ≠ 0)
      (fun j => ((gp_x (gp_d (P j) m) (gp_d (P (j + 1)) m)).natAbs : Int)) (fun j => ((gp_H (gp_e P j)).natAbs : Int))
      (fun j _ => by have := gp_P_e h j; (try dsimp only); omega) n c
    try dsimp only at hmin
    have hmin2 : ∀ k, gp_c (gp_d (P k) m) (gp_d (P (k + 1)) m) ≠ 0 →
        ((gp_x (gp_d (P i) m) (gp_d (P (i + 1)) m)).natAbs : Int) * ((gp_H (gp_e P k)).natAbs : Int) ≤ ((gp_x (gp_d (P k) m) (gp_d (P (k + 1)) m)).natAbs : Int) * ((gp_H (gp_e P i)).natAbs : Int) := by
      intro k hk
      have a := hmin (k % n) (Nat.mod_lt _ (by omega))
      unfold gp_e at *
      rw [← gp_P_mod1 h.2.1 k, ← gp_P_mod h.2.1 k] at a
      exact a hk
    clear hmin
    have He : ∀ k, gp_H (gp_e P k) = gp_H (gp_d (P (k + 1)) m) - gp_H (gp_d (P k) m) := fun k => by
      unfold gp_e; rw [gp_Hd, gp_Hd, gp_Hd]; omega
    generalize hNN : ((gp_x (gp_d (P i) m) (gp_d (P (i + 1)) m)).natAbs : Int) = N at *
    generalize hDD : ((gp_H (gp_e P i)).natAbs : Int) = D at *
    have hei := gp_P_e h i
    have hD : 0 < D := by omega
    have ci : (gp_H (gp_d (P i) m) < 0 ∧ 0 < gp_H (gp_d (P (i + 1)) m) ∧ 0 < gp_x (gp_d (P i) m) (gp_d (P (i + 1)) m)) ∨ (0 < gp_H (gp_d (P i) m) ∧ gp_H (gp_d (P (i + 1)) m) < 0 ∧ gp_x (gp_d (P i) m) (gp_d (P (i + 1)) m) < 0) := by
      unfold gp_c at ri
      by_cases a : gp_H (gp_d (P i) m) < 0 ∧ 0 < gp_H (gp_d (P (i + 1)) m) ∧ 0 < gp_x (gp_d (P i) m) (gp_d (P (i + 1)) m)
      · exact Or.inl a
      · rw [if_neg a] at ri
        by_cases b : 0 < gp_H (gp_d (P i) m) ∧ gp_H (gp_d (P (i + 1)) m) < 0 ∧ gp_x (gp_d (P i) m) (gp_d (P (i + 1)) m) < 0
        · exact Or.inr b
        · rw [if_neg b] at ri; exact absurd rfl ri
    have hN : 0 < N := by omega
    have Z1 : ∃ Z : Int × Int, Z = (D * m.1 + 64 * N, D * m.2 + N) := ⟨_, rfl⟩
    obtain ⟨Z, hZ⟩ := Z1
    have HZ : gp_H Z = D * gp_H m := by rw [hZ]; unfold gp_H; (try dsimp only); grind
    have HkZ : ∀ k, gp_H (gp_d (gp_k D (P k)) Z) = D * gp_H (gp_d (P k) m) := fun k => by
      rw [gp_Hd, gp_Hd, HZ, gp_Hk, Int.mul_sub]
    have XkZ : ∀ k, gp_x (gp_d (gp_k D (P k)) Z) (gp_d (gp_k D (P (k + 1))) Z) = D * (D * gp_x (gp_d (P k) m) (gp_d (P (k + 1)) m) - N * gp_H (gp_e P k)) := fun k => by
      rw [hZ]; unfold gp_x gp_d gp_k gp_H gp_e gp_d; (try dsimp only); grind
    have Dh : D * gp_x (gp_d (P i) m) (gp_d (P (i + 1)) m) = N * gp_H (gp_e P i) := by
      have := He i
      rcases ci with ci | ci
      · have a : N = gp_x (gp_d (P i) m) (gp_d (P (i + 1)) m) := by omega
        have b : D = gp_H (gp_e P i) := by omega
        rw [a, b]; grind
      · have a : N = - gp_x (gp_d (P i) m) (gp_d (P (i + 1)) m) := by omega
        have b : D = - gp_H (gp_e P i) := by omega
        rw [a, b]; grind
    have h' := gp_Poly_k h hD
    have on : gp_On Z (gp_k D (P i)) (gp_k D (P (i + 1))) := by
      refine ⟨?_, ?_⟩
      · have x := XkZ i
        rw [Dh, Int.sub_self, Int.mul_zero] at x
        unfold gp_x gp_d at *
        try dsimp only at *
        grind
      · have a := HkZ i
        have b := HkZ (i + 1)
        rw [gp_Hd] at a b
        have s1 := gp_spos (a := gp_H (gp_d (P i) m)) hD
        have s2 := gp_spos (a := gp_H (gp_d (P (i + 1)) m)) hD
        omega
    have ed := gp_onedge h' i on (fun j _ _ => by
      try dsimp only
      rw [HkZ]
      have s1 := gp_spos (a := gp_H (gp_d (P j) m)) hD
      have := hH j
      omega)
    try dsimp only at ed
    rw [gp_Ga_k hD] at ed
    have ge : gp_g (gp_e (fun i => gp_k D (P i)) i) = gp_g (gp_e P i) := by
      unfold gp_e; (try dsimp only); rw [gp_kd, gp_gk hD]
    rw [ge] at ed
    have key : gp_sm (fun k => gp_c (gp_d (P (i + 1 + k)) m) (gp_d (P (i + 1 + k + 1)) m)) (n - 1) = gp_Ga P n - gp_g (gp_e P i) := by
      rw [← ed]
      refine gp_sm_congr fun k hk => ?_
      have sn := gp_seen h' i on (i + 1 + k) (by omega) (by omega)
      try dsimp only at sn
      obtain ⟨u, f1, f2⟩ := sn
      have hm := hmin2 (i + 1 + k)
      have hk1 := He (i + 1 + k)
      have nz : (gp_H (gp_d (P (i + 1 + k)) m) < 0 ∧ 0 < gp_H (gp_d (P (i + 1 + k + 1)) m)) ∨ (0 < gp_H (gp_d (P (i + 1 + k)) m) ∧ gp_H (gp_d (P (i + 1 + k + 1)) m) < 0) → gp_x (gp_d (gp_k D (P (i + 1 + k))) Z) (gp_d (gp_k D (P (i + 1 + k + 1))) Z) ≠ 0 := by
        intro q
        refine gp_half0 f1 f2 ?_
        rw [HkZ, HkZ]
        have s1 := gp_spos (a := gp_H (gp_d (P (i + 1 + k)) m)) hD
        have s2 := gp_spos (a := gp_H (gp_d (P (i + 1 + k + 1)) m)) hD
        omega
      have g := gp_hit (p := gp_H (gp_d (P (i + 1 + k)) m)) (q := gp_H (gp_d (P (i + 1 + k + 1)) m)) hD hN (He (i + 1 + k)) (XkZ (i + 1 + k)) nz
        (fun q => by
          have cc : gp_c (gp_d (P (i + 1 + k)) m) (gp_d (P (i + 1 + k + 1)) m) ≠ 0 := by unfold gp_c; rw [if_pos q]; omega
          have r := hm cc
          rw [Int.natAbs_of_nonneg (by omega), Int.natAbs_of_nonneg (by omega)] at r
          exact r)
        (fun q => by
          have cc : gp_c (gp_d (P (i + 1 + k)) m) (gp_d (P (i + 1 + k + 1)) m) ≠ 0 := by unfold gp_c; rw [if_neg (by omega), if_pos q]; omega
          have r := hm cc
          have a1 : ((gp_x (gp_d (P (i + 1 + k)) m) (gp_d (P (i + 1 + k + 1)) m)).natAbs : Int) = - gp_x (gp_d (P (i + 1 + k)) m) (gp_d (P (i + 1 + k + 1)) m) := by omega
          have a2 : ((gp_H (gp_e P (i + 1 + k))).natAbs : Int) = - gp_H (gp_e P (i + 1 + k)) := by omega
          rw [a1, a2] at r
          exact r)
      rw [← HkZ, ← HkZ] at g
      exact g.symm
    have tot : gp_w P n m = gp_c (gp_d (P i) m) (gp_d (P (i + 1)) m) + gp_sm (fun k => gp_c (gp_d (P (i + 1 + k)) m) (gp_d (P (i + 1 + k + 1)) m)) (n - 1) := by
      unfold gp_w
      rw [← gp_sm_per (fun k => gp_c (gp_d (P k) m) (gp_d (P (k + 1)) m)) n (fun k => by
        try dsimp only
        rw [h.2.1, show k + n + 1 = k + 1 + n by omega, h.2.1]) i]
      obtain ⟨r, rfl⟩ : ∃ r, n = r + 1 := ⟨n - 1, by omega⟩
      rw [gp_sm_first, show r + 1 - 1 = r by omega]
      refine gp_add2 ?_ (gp_sm_congr fun j _ => ?_)
      · rw [Nat.zero_add]
      · rw [show j + 1 + i = i + 1 + j by omega]
    have g01 := gp_Ga_01 h
    rw [tot, key]
    have hei := He i
    unfold gp_c gp_g
    repeat' split
    all_goals omega
  · left
    refine gp_sm_zero fun j hj => ?_
    by_cases e : gp_c (gp_d (P j) m) (gp_d (P (j + 1)) m) = 0
    · exact e
    · exact absurd ⟨j, hj, e⟩ c
end
end
section
/-! the winding number near a corner -/
theorem gp_cutw {P : Nat → Int × Int} {n : Nat} (h : gp_Poly P n) (i : Nat) (m : Int × Int) (hH : ∀ j, gp_H (gp_d (P j) m) ≠ 0)
    (hs : ∀ j, i + 2 ≤ j → j + 1 ≤ i + n → gp_Sep (P (i + 1)) m (P j) (P (j + 1)))
    (nf1 : gp_NF (gp_d (P (i + 1)) m) (gp_e P (i + 1))) (nf2 : gp_NF (gp_d (P (i + 1)) m) (gp_d (P i) (P (i + 1)))) :
    gp_w P n m = gp_Ga P n - gp_c (gp_e P i) (gp_e P (i + 1)) - gp_g (gp_e P i) + gp_c (gp_d (P (i + 1)) m) (gp_e P (i + 1)) - gp_c (gp_d (P (i + 1)) m) (gp_d (P i) (P (i + 1))) := by
  have hn := h.1
  obtain ⟨r, rfl⟩ : ∃ r, n = r + 2 := ⟨n - 2, by omega⟩
  have pe : P (i + 2 + r) = P i := by rw [show i + 2 + r = i + (r + 2) by omega, h.2.1]
  have tr := gp_trans (fun j => P (i + 2 + j)) m (P (i + 1)) r
    (fun j hj => gp_Sep_sw (hs (i + 2 + j) (by omega) (by omega)))
    (fun j hj => hH _)
    (fun j hj => gp_P_H h (i + 1) (i + 2 + j) (by omega) (by omega))
  try dsimp only at tr
  rw [pe, Nat.add_zero] at tr
  have F : gp_Phi P (r + 2) (i + 1) = gp_sm (fun j => gp_c (gp_d (P (i + 2 + j)) (P (i + 1))) (gp_d (P (i + 2 + (j + 1))) (P (i + 1)))) r := by
    unfold gp_Phi
    exact gp_sm_congr fun j _ => rfl
  have tot : gp_w P (r + 2) m = gp_c (gp_d (P (i + 1)) m) (gp_d (P (i + 2)) m) + gp_sm (fun j => gp_c (gp_d (P (i + 2 + j)) m) (gp_d (P (i + 2 + (j + 1))) m)) r + gp_c (gp_d (P i) m) (gp_d (P (i + 1)) m) := by
    unfold gp_w
    rw [← gp_sm_per (fun k => gp_c (gp_d (P k) m) (gp_d (P (k + 1)) m)) (r + 2) (fun k => by
      try dsimp only
      rw [h.2.1, show k + (r + 2) + 1 = k + 1 + (r + 2) by omega, h.2.1]) (i + 1)]
    rw [gp_sm_s, gp_sm_first]
    refine gp_add2 (gp_add2 ?_ (gp_sm_congr fun j _ => ?_)) ?_
    · rw [show 0 + (i + 1) = i + 1 by omega]
    · rw [show j + 1 + (i + 1) = i + 2 + j by omega]; rfl
    · rw [show r + 1 + (i + 1) = i + 2 + r by omega, pe, show i + 2 + r + 1 = i + 1 + (r + 2) by omega, h.2.1]
  have t1 : gp_c (gp_d (P (i + 1)) m) (gp_d (P (i + 2)) m) + gp_c (gp_d (P (i + 2)) m) (gp_e P (i + 1)) = gp_c (gp_d (P (i + 1)) m) (gp_e P (i + 1)) :=
    gp_tri (by unfold gp_e gp_d; (try dsimp only); grind) nf1 (hH _) (gp_P_e h _) (hH _)
  have t2 : gp_c (gp_d (P (i + 1)) m) (gp_d (P i) m) + gp_c (gp_d (P i) m) (gp_d (P i) (P (i + 1))) = gp_c (gp_d (P (i + 1)) m) (gp_d (P i) (P (i + 1))) :=
    gp_tri (by unfold gp_d; (try dsimp only); grind) nf2 (hH _) (gp_H_rev (gp_P_e h i)) (hH _)
  have an := gp_c_anti (gp_d (P i) m) (gp_d (P (i + 1)) m)
  have G := gp_Gai_const h i
  unfold gp_Gai at G
  have e5 : gp_d (P (i + 2)) (P (i + 1)) = gp_e P (i + 1) := rfl
  rw [e5] at tr
  rw [tot]
  omega
def gp_opL (b tN tL : Int) : Prop := (0 < b ∧ 0 < tN ∧ 0 < tL) ∨ (b = 0 ∧ 0 < tN) ∨ (b < 0 ∧ (0 < tN ∨ 0 < tL))
def gp_cc (p q t : Int) : Int := if p < 0 ∧ 0 < q ∧ 0 < t then 1 else if 0 < p ∧ q < 0 ∧ t < 0 then -1 else 0
theorem gp_loc {HE HF Hd b tN tL : Int} (pl : HE * tN - HF * tL + Hd * b = 0) (hE : HE ≠ 0) (hF : HF ≠ 0) (hd : Hd ≠ 0)
    (nf1 : b = 0 → (0 < HE ↔ 0 < HF)) (nf2 : tN = 0 → (0 < -Hd ↔ 0 < HF)) (nf3 : tL = 0 → (0 < -Hd ↔ 0 < -HE)) :
    ((- gp_cc HE HF b - (if 0 < HE then 1 else 0) + gp_cc (-Hd) HF tN - gp_cc (-Hd) (-HE) (-tL) = 0) ∧ gp_opL b tN tL ∧ ¬ gp_opL (-b) (-tN) (-tL)) ∨
    ((- gp_cc HE HF b - (if 0 < HE then 1 else 0) + gp_cc (-Hd) HF tN - gp_cc (-Hd) (-HE) (-tL) = -1) ∧ ¬ gp_opL b tN tL ∧ gp_opL (-b) (-tN) (-tL)) := by
  have s1 := gp_sgn HE tN
  have s2 := gp_sgn HF tL
  have s3 := gp_sgn Hd b
  generalize HE * tN = A at *
  generalize HF * tL = B at *
  generalize Hd * b = C at *
  unfold gp_opL gp_cc
  rcases Int.lt_or_gt_of_ne hE with e | e <;> rcases Int.lt_or_gt_of_ne hF with f | f <;> rcases Int.lt_or_gt_of_ne hd with d | d <;>
    rcases Int.lt_trichotomy b 0 with x | x | x <;> rcases Int.lt_trichotomy tN 0 with y | y | y <;> rcases Int.lt_trichotomy tL 0 with z | z | z <;>
    first
    | (exfalso; omega)
    | (left
       refine ⟨?_, by omega, by omega⟩
       repeat' split
       all_goals omega)
    | (right
       refine ⟨?_, by omega, by omega⟩
       repeat' split
       all_goals omega)
end
section
/-! the weights of grid points by a side, and their sum -/
def gp_dir (a b : Int × Int) : Int := if gp_H a < gp_H b then 1 else -1
def gp_q (p a b : Int × Int) : Int := if p = a ∨ p = b then gp_dir a b else if gp_On p a b then 2 * gp_dir a b else 4 * gp_c (gp_d a p) (gp_d b p)
def gp_gs (f : Nat → Nat → Int) : Int := gp_sm (fun y => gp_sm (fun x => f x y) 16) 16
def gp_nn (x y : Nat) : Int × Int := ((x : Int), (y : Int))
theorem gp_dir_sw {a b : Int × Int} (h : gp_H a ≠ gp_H b) : gp_dir b a = - gp_dir a b := by
  unfold gp_dir
  repeat' split
  all_goals omega
theorem gp_q_sw {p a b : Int × Int} (h : gp_H a ≠ gp_H b) : gp_q p b a = - gp_q p a b := by
  unfold gp_q
  rw [gp_dir_sw h, gp_c_anti (gp_d a p) (gp_d b p)]
  by_cases e : p = a ∨ p = b
  · rw [if_pos e.symm, if_pos e]
  · rw [if_neg (fun z => e z.symm), if_neg e]
    by_cases o : gp_On p a b
    · rw [if_pos (gp_On_sw o), if_pos o]; omega
    · rw [if_neg (fun z => o (gp_On_sw z)), if_neg o]; omega
def gp_tau (t : Int) : Int := if 0 < t then 2 else if t = 0 then 1 else 0
theorem gp_tau_neg (t : Int) : gp_tau t + gp_tau (-t) = 2 := by
  unfold gp_tau
  repeat' split
  all_goals omega
def gp_t (ax ay bx by' x y : Int) : Int := (ax - x) * (by' - y) - (ay - y) * (bx - x)
/-- a row strictly between the ends -/
theorem gp_q_mid {ax ay bx by' x y : Nat} (hax : ax < 16) (hbx : bx < 16) (hx : x < 16) (h1 : ay < y) (h2 : y < by') :
    gp_q (gp_nn x y) (gp_nn ax ay) (gp_nn bx by') = 2 * gp_tau (gp_t ax ay bx by' x y) := by
  unfold gp_q gp_nn
  have n1 : ¬ (((x : Int), (y : Int)) = ((ax : Int), (ay : Int)) ∨ ((x : Int), (y : Int)) = ((bx : Int), (by' : Int))) := by
    rintro (z | z)
    · have := congrArg Prod.snd z; try dsimp only at this; omega
    · have := congrArg Prod.snd z; try dsimp only at this; omega
  rw [if_neg n1]
  have d1 : gp_dir ((ax : Int), (ay : Int)) ((bx : Int), (by' : Int)) = 1 := by
    unfold gp_dir gp_H; (try dsimp only); rw [if_pos (by omega)]
  have H1 : gp_H (gp_d ((ax : Int), (ay : Int)) ((x : Int), (y : Int))) < 0 := by unfold gp_H gp_d; (try dsimp only); omega
  have H2 : 0 < gp_H (gp_d ((bx : Int), (by' : Int)) ((x : Int), (y : Int))) := by unfold gp_H gp_d; (try dsimp only); omega
  have X : gp_x (gp_d ((ax : Int), (ay : Int)) ((x : Int), (y : Int))) (gp_d ((bx : Int), (by' : Int)) ((x : Int), (y : Int))) = gp_t ax ay bx by' x y := by
    unfold gp_x gp_d gp_t; try dsimp only
  have X' : gp_x (gp_d ((x : Int), (y : Int)) ((ax : Int), (ay : Int))) (gp_d ((bx : Int), (by' : Int)) ((ax : Int), (ay : Int))) = - gp_t ax ay bx by' x y := by
    unfold gp_x gp_d gp_t; (try dsimp only); grind
  have G1 : gp_H ((ax : Int), (ay : Int)) < gp_H ((x : Int), (y : Int)) ∧ gp_H ((x : Int), (y : Int)) < gp_H ((bx : Int), (by' : Int)) := by unfold gp_H; (try dsimp only); omega
  rw [d1]
  unfold gp_On gp_c gp_tau
  rw [X, X']
  repeat' split
  all_goals omega
/-- the middle rows, by the half turn about the middle of the side -/
def gp_R (ax ay bx by' : Int) (M : Nat) (y : Int) : Int := gp_sm (fun x => gp_tau (gp_t ax ay bx by' x y)) M
theorem gp_R_sum (ax ay bx by' y : Int) (M : Nat) (hM : (M : Int) = ax + bx) : gp_R ax ay bx by' (M + 1) y + gp_R ax ay bx by' (M + 1) (ay + by' - y) = 2 * (M + 1) := by
  unfold gp_R
  rw [← gp_sm_rev (fun x => gp_tau (gp_t ax ay bx by' x (ay + by' - y))) (M + 1), ← gp_sm_add]
  have : gp_sm (fun x => gp_tau (gp_t ax ay bx by' x y) + gp_tau (gp_t ax ay bx by' ((M + 1 - 1 - x : Nat) : Int) (ay + by' - y))) (M + 1) = gp_sm (fun _ => 2) (M + 1) := by
    refine gp_sm_congr fun x hx => ?_
    have e : gp_t ax ay bx by' ((M + 1 - 1 - x : Nat) : Int) (ay + by' - y) = - gp_t ax ay bx by' x y := by
      have : ((M + 1 - 1 - x : Nat) : Int) = ax + bx - x := by omega
      rw [this]
      unfold gp_t
      grind
    rw [e, gp_tau_neg]
  rw [this, gp_sm_const]
  omega
theorem gp_R_ext (ax ay bx by' y : Int) (h1 : ay < y) (h2 : y < by') (M K : Nat) (hMK : M ≤ K) (ha : ax < M) (hb : bx < M) : gp_R ax ay bx by' K y = gp_R ax ay bx by' M y := by
  unfold gp_R
  obtain ⟨k, rfl⟩ : ∃ k, K = M + k := ⟨K - M, by omega⟩
  rw [gp_sm_app]
  have : gp_sm (fun i => gp_tau (gp_t ax ay bx by' ((M + i : Nat) : Int) y)) k = 0 := gp_sm_zero fun i _ => by
    have e : gp_t ax ay bx by' ((M + i : Nat) : Int) y < 0 := by
      unfold gp_t
      have a : (ax - ((M + i : Nat) : Int)) * (by' - y) < 0 := Int.mul_neg_of_neg_of_pos (by omega) (by omega)
      have b : 0 < (ay - y) * (bx - ((M + i : Nat) : Int)) := Int.mul_pos_of_neg_of_neg (by omega) (by omega)
      omega
    unfold gp_tau
    rw [if_neg (by omega), if_neg (by omega)]
  rw [this]
  omega
theorem gp_R_all (ax bx ay d : Nat) (hax : ax < 16) (hbx : bx < 16) :
    gp_sm (fun j => gp_R ax ay bx ((ay + d + 1 : Nat) : Int) 16 ((ay + 1 + j : Nat) : Int)) d = d * (ax + bx + 1) := by
  have e1 : ∀ j, j < d → gp_R ax ay bx ((ay + d + 1 : Nat) : Int) 16 ((ay + 1 + j : Nat) : Int) = gp_R ax ay bx ((ay + d + 1 : Nat) : Int) (ax + bx + 1) ((ay + 1 + j : Nat) : Int) := by
    intro j hj
    rw [← gp_R_ext ax ay bx ((ay + d + 1 : Nat) : Int) ((ay + 1 + j : Nat) : Int) (by omega) (by omega) 16 31 (by omega) (by omega) (by omega)]
    exact gp_R_ext ax ay bx ((ay + d + 1 : Nat) : Int) ((ay + 1 + j : Nat) : Int) (by omega) (by omega) (ax + bx + 1) 31 (by omega) (by omega) (by omega)
  rw [gp_sm_congr e1]
  have r := gp_sm_rev (fun j => gp_R ax ay bx ((ay + d + 1 : Nat) : Int) (ax + bx + 1) ((ay + 1 + j : Nat) : Int)) d
  have s := gp_sm_add (fun j => gp_R ax ay bx ((ay + d + 1 : Nat) : Int) (ax + bx + 1) ((ay + 1 + j : Nat) : Int)) (fun i => gp_R ax ay bx ((ay + d + 1 : Nat) : Int) (ax + bx + 1) ((ay + 1 + (d - 1 - i) : Nat) : Int)) d
  rw [r] at s
  have t : gp_sm (fun i => gp_R ax ay bx ((ay + d + 1 : Nat) : Int) (ax + bx + 1) ((ay + 1 + i : Nat) : Int) + gp_R ax ay bx ((ay + d + 1 : Nat) : Int) (ax + bx + 1) ((ay + 1 + (d - 1 - i) : Nat) : Int)) d = gp_sm (fun _ => 2 * (((ax + bx : Nat) : Int) + 1)) d := by
    refine gp_sm_congr fun j hj => ?_
    have := gp_R_sum ax ay bx ((ay + d + 1 : Nat) : Int) ((ay + 1 + j : Nat) : Int) (ax + bx) (by omega)
    rw [show (ay : Int) + ((ay + d + 1 : Nat) : Int) - ((ay + 1 + j : Nat) : Int) = ((ay + 1 + (d - 1 - j) : Nat) : Int) by omega] at this
    exact this
  rw [t, gp_sm_const] at s
  have e : ((ax + bx : Nat) : Int) + 1 = (ax : Int) + bx + 1 := by omega
  rw [e] at s
  have : (d : Int) * (2 * ((ax : Int) + bx + 1)) = 2 * ((d : Int) * ((ax : Int) + bx + 1)) := by grind
  omega
/-- a row of the lower end -/
theorem gp_row_lo {ax ay bx by' : Nat} (hax : ax < 16) (hbx : bx < 16) (h : ay < by') : gp_sm (fun x => gp_q (gp_nn x ay) (gp_nn ax ay) (gp_nn bx by')) 16 = 4 * ax + 1 := by
  have d1 : gp_dir (gp_nn ax ay) (gp_nn bx by') = 1 := by
    unfold gp_dir gp_H gp_nn; (try dsimp only); rw [if_pos (by omega)]
  have v : ∀ x, x < 16 → gp_q (gp_nn x ay) (gp_nn ax ay) (gp_nn bx by') = if x < ax then 4 else if x = ax then 1 else 0 := by
    intro x hx
    unfold gp_q
    by_cases e : x = ax
    · rw [if_pos (Or.inl (by rw [e])), d1, if_neg (by omega), if_pos e]
    · have n1 : ¬ (gp_nn x ay = gp_nn ax ay ∨ gp_nn x ay = gp_nn bx by') := by
        rintro (z | z)
        · have := congrArg Prod.fst z; unfold gp_nn at this; try dsimp only at this; omega
        · have := congrArg Prod.snd z; unfold gp_nn at this; try dsimp only at this; omega
      have n2 : ¬ gp_On (gp_nn x ay) (gp_nn ax ay) (gp_nn bx by') := by
        rintro ⟨z, w⟩
        unfold gp_x gp_d gp_nn at z
        try dsimp only at z
        have p := gp_mzero.mp (show ((x : Int) - ax) * ((by' : Int) - ay) = 0 by
          rw [Int.sub_self, Int.zero_mul, Int.sub_zero] at z; exact z)
        omega
      rw [if_neg n1, if_neg n2]
      have H2 : 0 < gp_H (gp_d (gp_nn bx by') (gp_nn x ay)) := by unfold gp_H gp_d gp_nn; (try dsimp only); omega
      have H1 : gp_H (gp_d (gp_nn ax ay) (gp_nn x ay)) = (x : Int) - ax := by unfold gp_H gp_d gp_nn; (try dsimp only); omega
      have X : gp_x (gp_d (gp_nn ax ay) (gp_nn x ay)) (gp_d (gp_nn bx by') (gp_nn x ay)) = ((ax : Int) - x) * ((by' : Int) - ay) := by
        unfold gp_x gp_d gp_nn; (try dsimp only); grind
      have sg := gp_sgn ((ax : Int) - x) ((by' : Int) - ay)
      unfold gp_c
      rw [X, H1]
      clear X H1
      generalize ((ax : Int) - x) * ((by' : Int) - ay) = T at *
      repeat' split
      all_goals omega
  rw [gp_sm_congr v]
  have : ∀ m a : Nat, gp_sm (fun x => if x < a then (4 : Int) else if x = a then 1 else 0) m = if a < m then 4 * (a : Int) + 1 else 4 * (m : Int) := by
    intro m a
    induction m with
    | zero => rw [gp_sm_0, if_neg (by omega)]; rfl
    | succ m ih =>
      rw [gp_sm_s, ih]
      repeat' split
      all_goals omega
  rw [this, if_pos hax]
theorem gp_row_hi {ax ay bx by' : Nat} (hax : ax < 16) (hbx : bx < 16) (h : ay < by') : gp_sm (fun x => gp_q (gp_nn x by') (gp_nn ax ay) (gp_nn bx by')) 16 = 1 := by
  have d1 : gp_dir (gp_nn ax ay) (gp_nn bx by') = 1 := by
    unfold gp_dir gp_H gp_nn; (try dsimp only); rw [if_pos (by omega)]
  have v : ∀ x, x < 16 → gp_q (gp_nn x by') (gp_nn ax ay) (gp_nn bx by') = if x = bx then 1 else 0 := by
    intro x hx
    unfold gp_q
    by_cases e : x = bx
    · rw [if_pos (Or.inr (by rw [e])), d1, if_pos e]
    · have n1 : ¬ (gp_nn x by' = gp_nn ax ay ∨ gp_nn x by' = gp_nn bx by') := by
        rintro (z | z)
        · have := congrArg Prod.snd z; unfold gp_nn at this; try dsimp only at this; omega
        · have := congrArg Prod.fst z; unfold gp_nn at this; try dsimp only at this; omega
      have n2 : ¬ gp_On (gp_nn x by') (gp_nn ax ay) (gp_nn bx by') := by
        rintro ⟨z, w⟩
        unfold gp_x gp_d gp_nn at z
        try dsimp only at z
        have p := gp_mzero.mp (show ((x : Int) - bx) * ((by' : Int) - ay) = 0 by grind)
        omega
      rw [if_neg n1, if_neg n2, if_neg e]
      have H2 : gp_H (gp_d (gp_nn bx by') (gp_nn x by')) = (x : Int) - bx := by unfold gp_H gp_d gp_nn; (try dsimp only); omega
      have H1 : gp_H (gp_d (gp_nn ax ay) (gp_nn x by')) < 0 := by unfold gp_H gp_d gp_nn; (try dsimp only); omega
      have X : gp_x (gp_d (gp_nn ax ay) (gp_nn x by')) (gp_d (gp_nn bx by') (gp_nn x by')) = ((by' : Int) - ay) * ((bx : Int) - x) := by
        unfold gp_x gp_d gp_nn; (try dsimp only); grind
      have sg := gp_sgn ((by' : Int) - ay) ((bx : Int) - x)
      unfold gp_c
      rw [X, H2]
      clear X H2
      generalize ((by' : Int) - ay) * ((bx : Int) - x) = T at *
      repeat' split
      all_goals omega
  rw [gp_sm_congr v, gp_sm_one hbx (fun i _ hi => if_neg hi), if_pos rfl]
theorem gp_q_out {ax ay bx by' x y : Nat} (hax : ax < 16) (hbx : bx < 16) (hx : x < 16) (h : (y < ay ∧ y < by') ∨ (ay < y ∧ by' < y)) : gp_q (gp_nn x y) (gp_nn ax ay) (gp_nn bx by') = 0 := by
  unfold gp_q
  have n1 : ¬ (gp_nn x y = gp_nn ax ay ∨ gp_nn x y = gp_nn bx by') := by
    rintro (z | z)
    · have := congrArg Prod.snd z; unfold gp_nn at this; try dsimp only at this; omega
    · have := congrArg Prod.snd z; unfold gp_nn at this; try dsimp only at this; omega
  have n2 : ¬ gp_On (gp_nn x y) (gp_nn ax ay) (gp_nn bx by') := by
    rintro ⟨_, w⟩
    unfold gp_H gp_nn at w
    try dsimp only at w
    omega
  rw [if_neg n1, if_neg n2, gp_c_same]
  · rfl
  · unfold gp_H gp_d gp_nn; (try dsimp only); omega
  · unfold gp_H gp_d gp_nn; (try dsimp only); omega
  · unfold gp_H gp_d gp_nn; (try dsimp only); omega
theorem gp_side_up {ax ay bx by' : Nat} (hax : ax < 16) (hay : ay < 16) (hbx : bx < 16) (hby : by' < 16) (h : ay < by') :
    gp_gs (fun x y => gp_q (gp_nn x y) (gp_nn ax ay) (gp_nn bx by')) = 2 * (((by' : Int) - ay) * ((ax : Int) + bx + 1) + ((ax : Int) - bx)) := by
  unfold gp_gs
  obtain ⟨d, hd⟩ : ∃ d, by' = ay + d + 1 := ⟨by' - ay - 1, by omega⟩
  obtain ⟨r, hr⟩ : ∃ r, 16 = ay + (1 + (d + (1 + r))) := ⟨16 - by' - 1, by omega⟩
  have s : ∀ f : Nat → Int, gp_sm f 16 = gp_sm f ay + (f ay + (gp_sm (fun j => f (ay + 1 + j)) d + (f by' + gp_sm (fun j => f (by' + 1 + j)) r))) := by
    intro f
    rw [hr, gp_sm_app, gp_sm_app, gp_sm_app, gp_sm_app]
    rw [show gp_sm (fun i => f (ay + i)) 1 = f ay by rw [gp_sm_s, gp_sm_0, Nat.add_zero]; omega]
    have e1 : gp_sm (fun i => f (ay + (1 + i))) d = gp_sm (fun j => f (ay + 1 + j)) d := gp_sm_congr fun j _ => congrArg f (by omega)
    have e2 : gp_sm (fun i => f (ay + (1 + (d + i)))) 1 = f by' := by
      rw [gp_sm_s, gp_sm_0, Nat.add_zero, show ay + (1 + d) = by' by omega]; omega
    have e3 : gp_sm (fun i => f (ay + (1 + (d + (1 + i))))) r = gp_sm (fun j => f (by' + 1 + j)) r := gp_sm_congr fun j _ => congrArg f (by omega)
    rw [e1, e2, e3]
  rw [s]
  try dsimp only
  have z1 : gp_sm (fun y => gp_sm (fun x => gp_q (gp_nn x y) (gp_nn ax ay) (gp_nn bx by')) 16) ay = 0 :=
    gp_sm_zero fun y hy => gp_sm_zero fun x hx => gp_q_out hax hbx hx (by omega)
  have z2 : gp_sm (fun j => gp_sm (fun x => gp_q (gp_nn x (by' + 1 + j)) (gp_nn ax ay) (gp_nn bx by')) 16) r = 0 :=
    gp_sm_zero fun y hy => gp_sm_zero fun x hx => gp_q_out hax hbx hx (by omega)
  have z3 : gp_sm (fun j => gp_sm (fun x => gp_q (gp_nn x (ay + 1 + j)) (gp_nn ax ay) (gp_nn bx by')) 16) d = gp_sm (fun j => 2 * gp_R ax ay bx ((ay + d + 1 : Nat) : Int) 16 ((ay + 1 + j : Nat) : Int)) d := by
    refine gp_sm_congr fun j hj => ?_
    unfold gp_R
    rw [← gp_sm_mul]
    refine gp_sm_congr fun x hx => ?_
    rw [gp_q_mid hax hbx hx (by omega) (by omega), hd]
  rw [z1, z2, z3, gp_sm_mul, gp_R_all ax bx ay d hax hbx, gp_row_lo hax hbx h, gp_row_hi hax hbx h]
  have : (by' : Int) - ay = d + 1 := by omega
  rw [this]
  grind
theorem gp_side_flat {ax ay bx : Nat} (hax : ax < 16) (hay : ay < 16) (h : bx < ax) :
    gp_gs (fun x y => gp_q (gp_nn x y) (gp_nn ax ay) (gp_nn bx ay)) = 2 * ((ax : Int) - bx) := by
  unfold gp_gs
  rw [gp_sm_one hay (fun y hy ne => gp_sm_zero fun x hx => gp_q_out hax (by omega) hx (by omega))]
  have d1 : gp_dir (gp_nn ax ay) (gp_nn bx ay) = 1 := by
    unfold gp_dir gp_H gp_nn; (try dsimp only); rw [if_pos (by omega)]
  have v : ∀ x, x < 16 → gp_q (gp_nn x ay) (gp_nn ax ay) (gp_nn bx ay) = if x < bx then 0 else if x = bx then 1 else if x < ax then 2 else if x = ax then 1 else 0 := by
    intro x hx
    unfold gp_q
    by_cases e : x = ax ∨ x = bx
    · have : gp_nn x ay = gp_nn ax ay ∨ gp_nn x ay = gp_nn bx ay := by
        rcases e with e | e
        · exact Or.inl (by rw [e])
        · exact Or.inr (by rw [e])
      rw [if_pos this, d1]
      repeat' split
      all_goals omega
    · have n1 : ¬ (gp_nn x ay = gp_nn ax ay ∨ gp_nn x ay = gp_nn bx ay) := by
        rintro (z | z)
        · have := congrArg Prod.fst z; unfold gp_nn at this; try dsimp only at this; omega
        · have := congrArg Prod.fst z; unfold gp_nn at this; try dsimp only at this; omega
      rw [if_neg n1, d1]
      have X : gp_x (gp_d (gp_nn x ay) (gp_nn ax ay)) (gp_d (gp_nn bx ay) (gp_nn ax ay)) = 0 := by
        unfold gp_x gp_d gp_nn; (try dsimp only); grind
      have A : gp_H (gp_nn ax ay) = 64 * (ay : Int) - ax := rfl
      have B : gp_H (gp_nn bx ay) = 64 * (ay : Int) - bx := rfl
      have C : gp_H (gp_nn x ay) = 64 * (ay : Int) - x := rfl
      have D : gp_H (gp_d (gp_nn ax ay) (gp_nn x ay)) = (x : Int) - ax := by rw [gp_Hd]; omega
      have E : gp_H (gp_d (gp_nn bx ay) (gp_nn x ay)) = (x : Int) - bx := by rw [gp_Hd]; omega
      by_cases o : gp_On (gp_nn x ay) (gp_nn ax ay) (gp_nn bx ay)
      · rw [if_pos o]
        have := o.2
        repeat' split
        all_goals omega
      · rw [if_neg o]
        have o2 : ¬ ((gp_H (gp_nn ax ay) < gp_H (gp_nn x ay) ∧ gp_H (gp_nn x ay) < gp_H (gp_nn bx ay)) ∨ (gp_H (gp_nn bx ay) < gp_H (gp_nn x ay) ∧ gp_H (gp_nn x ay) < gp_H (gp_nn ax ay))) := fun z => o ⟨X, z⟩
        rw [gp_c_same (by omega) (by omega) (by omega)]
        repeat' split
        all_goals omega
  rw [gp_sm_congr v]
  have : ∀ m : Nat, gp_sm (fun x => if x < bx then (0 : Int) else if x = bx then 1 else if x < ax then 2 else if x = ax then 1 else 0) m = if m ≤ bx then 0 else if m ≤ ax then 2 * ((m : Int) - bx) - 1 else 2 * ((ax : Int) - bx) := by
    intro m
    induction m with
    | zero => rw [gp_sm_0, if_pos (by omega)]
    | succ m ih =>
      rw [gp_sm_s, ih]
      repeat' split
      all_goals omega
  rw [this, if_neg (by omega), if_neg (by omega)]
theorem gp_side {ax ay bx by' : Nat} (hax : ax < 16) (hay : ay < 16) (hbx : bx < 16) (hby : by' < 16) (h : gp_H (gp_nn ax ay) ≠ gp_H (gp_nn bx by')) :
    gp_gs (fun x y => gp_q (gp_nn x y) (gp_nn ax ay) (gp_nn bx by')) = 2 * (((by' : Int) - ay) * ((ax : Int) + bx + 1) + ((ax : Int) - bx)) := by
  have sw : ∀ a b : Int × Int, gp_H a ≠ gp_H b → gp_gs (fun x y => gp_q (gp_nn x y) b a) = - gp_gs (fun x y => gp_q (gp_nn x y) a b) := by
    intro a b hab
    unfold gp_gs
    have : gp_sm (fun y => gp_sm (fun x => gp_q (gp_nn x y) b a) 16) 16 = gp_sm (fun y => (-1) * gp_sm (fun x => gp_q (gp_nn x y) a b) 16) 16 := by
      refine gp_sm_congr fun y _ => ?_
      rw [← gp_sm_mul]
      refine gp_sm_congr fun x _ => ?_
      rw [gp_q_sw hab]; omega
    rw [this, gp_sm_mul]; (try dsimp only); omega
  rcases Nat.lt_trichotomy ay by' with c | c | c
  · exact gp_side_up hax hay hbx hby c
  · subst c
    rw [Int.sub_self, Int.zero_mul, Int.zero_add]
    rcases Nat.lt_trichotomy ax bx with e | e | e
    · rw [sw _ _ (fun z => h z.symm), gp_side_flat hbx hay e]; omega
    · subst e; exact absurd rfl h
    · exact gp_side_flat hax hay e
  · rw [sw _ _ (fun z => h z.symm), gp_side_up hbx hby hax hay c]
    grind
end
section
/-! Pick's count -/
theorem gp_dir_g {a b : Int × Int} (h : gp_H (gp_d b a) ≠ 0) : gp_dir a b = 2 * gp_g (gp_d b a) - 1 := by
  unfold gp_dir gp_g
  rw [gp_Hd] at *
  repeat' split
  all_goals omega
theorem gp_tri_f {a b s : Int × Int} (hs : s = (a.1 + b.1, a.2 + b.2)) (nf : gp_NF a b) (Ha : gp_H a ≠ 0) (Hb : gp_H b ≠ 0) : ∃ u : Int × Int, 0 < gp_f u a ∧ 0 < gp_f u s := by
  rcases Int.lt_trichotomy (gp_x a b) 0 with h | h | h
  · refine ⟨(a.2 - b.2, b.1 - a.1), ?_, ?_⟩
    · unfold gp_f; unfold gp_x at h; (try dsimp only); grind
    · rw [hs]; unfold gp_f; unfold gp_x at h; (try dsimp only); grind
  · have nf := nf h
    have e : gp_H s = gp_H a + gp_H b := by rw [hs]; unfold gp_H; (try dsimp only); omega
    by_cases c : 0 < gp_H a
    · refine ⟨(-1, 64), ?_, ?_⟩
      all_goals
        have e : ∀ y : Int × Int, gp_f (-1, 64) y = gp_H y := fun y => by unfold gp_f gp_H; (try dsimp only); omega
        rw [e]
        omega
    · refine ⟨(1, -64), ?_, ?_⟩
      all_goals
        have e : ∀ y : Int × Int, gp_f (1, -64) y = - gp_H y := fun y => by unfold gp_f gp_H; (try dsimp only); omega
        rw [e]
        omega
  · refine ⟨(b.2 - a.2, a.1 - b.1), ?_, ?_⟩
    · unfold gp_f; unfold gp_x at h; (try dsimp only); grind
    · rw [hs]; unfold gp_f; unfold gp_x at h; (try dsimp only); grind
theorem gp_notOn {p a b u : Int × Int} (h1 : 0 < gp_f u (gp_d a p)) (h2 : 0 < gp_f u (gp_d b p)) : ¬ gp_On p a b := by
  rintro ⟨z, o⟩
  refine gp_half0 h1 h2 ?_ ?_
  · rw [gp_Hd, gp_Hd]; omega
  · unfold gp_x gp_d at *
    try dsimp only at *
    grind
section
variable {P : Nat → Int × Int} {n : Nat}
theorem gp_seenV (h : gp_Poly P n) (i k : Nat) (h1 : i + 1 ≤ k) (h2 : k + 2 ≤ i + n) : ∃ u : Int × Int, 0 < gp_f u (gp_d (P k) (P i)) ∧ 0 < gp_f u (gp_d (P (k + 1)) (P i)) := by
  have hn := h.1
  by_cases c : k = i + 1
  · subst c
    exact gp_tri_f (a := gp_e P i) (b := gp_e P (i + 1)) (by unfold gp_e gp_d; (try dsimp only); grind) (gp_P_nf h i) (gp_P_e h _) (gp_P_e h _)
  · obtain ⟨u, a, _, b, _⟩ := h.2.2.2.1 i k (by omega) h2
    exact ⟨u, a, b⟩
def gp_corr (P : Nat → Int × Int) (i : Nat) : Int := 2 * gp_g (gp_e P i) - 2 * gp_g (gp_e P (i + 1)) + 4 * gp_c (gp_e P i) (gp_e P (i + 1))
def gp_qs (P : Nat → Int × Int) (n : Nat) (p : Int × Int) : Int := gp_sm (fun k => gp_q p (P k) (P (k + 1))) n
theorem gp_qs_shift (h : gp_Poly P n) (p : Int × Int) (i : Nat) : gp_qs P n p = gp_sm (fun k => gp_q p (P (i + k)) (P (i + k + 1))) n := by
  unfold gp_qs
  rw [← gp_sm_per (fun k => gp_q p (P k) (P (k + 1))) n (fun k => by
    try dsimp only
    rw [h.2.1, show k + n + 1 = k + 1 + n by omega, h.2.1]) i]
  exact gp_sm_congr fun k _ => by rw [Nat.add_comm k i]
theorem gp_P_ne (h : gp_Poly P n) (i j : Nat) (hij : i < j) (hj : j < i + n) : P i ≠ P j := by
  intro e
  have := gp_P_H h i j hij hj
  rw [e, gp_Hd] at this
  omega
/-- a corner -/
theorem gp_pt_corner (h : gp_Poly P n) (i : Nat) : gp_qs P n (P (i + 1)) + gp_corr P i = 4 * gp_Ga P n - 2 := by
  have hn := h.1
  rw [gp_qs_shift h _ i]
  obtain ⟨r, rfl⟩ : ∃ r, n = r + 2 := ⟨n - 2, by omega⟩
  rw [gp_sm_first, gp_sm_first]
  have q0 : gp_q (P (i + 1)) (P (i + 0)) (P (i + 0 + 1)) = 2 * gp_g (gp_e P i) - 1 := by
    unfold gp_q
    rw [if_pos (Or.inr rfl)]
    exact gp_dir_g (gp_P_e h i)
  have q1 : gp_q (P (i + 1)) (P (i + (0 + 1))) (P (i + (0 + 1) + 1)) = 2 * gp_g (gp_e P (i + 1)) - 1 := by
    unfold gp_q
    rw [if_pos (Or.inl rfl)]
    exact gp_dir_g (gp_P_e h (i + 1))
  have q2 : gp_sm (fun k => gp_q (P (i + 1)) (P (i + (k + 1 + 1))) (P (i + (k + 1 + 1) + 1))) r = 4 * gp_Phi P (r + 2) (i + 1) := by
    unfold gp_Phi
    rw [← gp_sm_mul, show r + 2 - 2 = r by omega]
    refine gp_sm_congr fun k hk => ?_
    unfold gp_q
    have a1 : P (i + 1) ≠ P (i + (k + 1 + 1)) := gp_P_ne h _ _ (by omega) (by omega)
    have a2 : P (i + 1) ≠ P (i + (k + 1 + 1) + 1) := gp_P_ne h _ _ (by omega) (by omega)
    obtain ⟨u, f1, f2⟩ := gp_seenV h (i + 1) (i + (k + 1 + 1)) (by omega) (by omega)
    rw [if_neg (fun z => z.elim a1 a2), if_neg (gp_notOn f1 f2), show i + 1 + 1 + k = i + (k + 1 + 1) by omega]
  rw [q0, q1, q2]
  have G := gp_Gai_const h i
  unfold gp_Gai at G
  unfold gp_corr
  omega
/-- a point on a side -/
theorem gp_pt_side (h : gp_Poly P n) (i : Nat) {p : Int × Int} (hp : gp_On p (P i) (P (i + 1))) (hv : ∀ j, gp_H (gp_d (P j) p) ≠ 0) : gp_qs P n p = 4 * gp_Ga P n - 2 := by
  have hn := h.1
  rw [gp_qs_shift h _ i]
  have ed := gp_onedge h i hp (fun j _ _ => hv j)
  obtain ⟨r, rfl⟩ : ∃ r, n = r + 1 := ⟨n - 1, by omega⟩
  have nv : ∀ j, p ≠ P j := fun j e => by
    have := hv j
    rw [e, gp_Hd] at this
    omega
  rw [gp_sm_first]
  have q0 : gp_q p (P (i + 0)) (P (i + 0 + 1)) = 2 * (2 * gp_g (gp_e P i) - 1) := by
    unfold gp_q
    rw [if_neg (fun z => z.elim (nv _) (nv _)), if_pos (show gp_On p (P (i + 0)) (P (i + 0 + 1)) from hp)]
    rw [show gp_dir (P (i + 0)) (P (i + 0 + 1)) = 2 * gp_g (gp_e P i) - 1 from gp_dir_g (gp_P_e h i)]
  have q2 : gp_sm (fun k => gp_q p (P (i + (k + 1))) (P (i + (k + 1) + 1))) r = 4 * gp_sm (fun k => gp_c (gp_d (P (i + 1 + k)) p) (gp_d (P (i + 1 + (k + 1))) p)) r := by
    rw [← gp_sm_mul]
    refine gp_sm_congr fun k hk => ?_
    unfold gp_q
    obtain ⟨u, f1, f2⟩ := gp_seen h i hp (i + (k + 1)) (by omega) (by omega)
    rw [if_neg (fun z => z.elim (nv _) (nv _)), if_neg (gp_notOn f1 f2), show i + 1 + k = i + (k + 1) by omega, show i + 1 + (k + 1) = i + (k + 1) + 1 by omega]
  rw [show r + 1 - 1 = r by omega] at ed
  rw [q0, q2, ed]
  omega
/-- a point off the sides -/
theorem gp_pt_off {p : Int × Int} (hv : ∀ j, j < n + 1 → p ≠ P j) (ho : ∀ j, j < n → ¬ gp_On p (P j) (P (j + 1))) : gp_qs P n p = 4 * gp_w P n p := by
  unfold gp_qs gp_w
  rw [← gp_sm_mul]
  refine gp_sm_congr fun k hk => ?_
  unfold gp_q
  rw [if_neg (fun z => z.elim (hv _ (by omega)) (hv _ (by omega))), if_neg (ho k hk)]
/-- half-open side -/
abbrev gp_hs (P : Nat → Int × Int) (p : Int × Int) (i : Nat) : Prop := p = P i ∨ gp_On p (P i) (P (i + 1))
theorem gp_hs_uni (h : gp_Poly P n) {p : Int × Int} (hv : ∀ j, p = P j ∨ gp_H (gp_d (P j) p) ≠ 0) {i k : Nat} (hik : i < k) (hk : k < i + n) (h1 : gp_hs P p i) (h2 : gp_hs P p k) : False := by
  have hn := h.1
  have vert : ∀ a b, a < b → b < a + n → p = P a → ¬ gp_On p (P b) (P (b + 1)) := by
    intro a b ab ba e
    subst e
    by_cases c : b + 1 = a + n
    · rintro ⟨_, o⟩
      rw [c, h.2.1] at o
      omega
    · obtain ⟨u, f1, f2⟩ := gp_seenV h a b (by omega) (by omega)
      exact gp_notOn f1 f2
  rcases h1 with h1 | h1 <;> rcases h2 with h2 | h2
  · exact gp_P_ne h i k hik hk (h1 ▸ h2)
  · exact vert i k hik hk h1 h2
  · have : p = P k := h2
    exact vert k (i + n) (by omega) (by omega) this (by rw [show i + n + 1 = i + 1 + n by omega, h.2.1, h.2.1]; exact h1)
  · obtain ⟨u, f1, f2⟩ := gp_seen h i h1 k (by omega) (by omega)
    exact gp_notOn f1 f2 h2
end
/-- the point is on the edge; it is inside -/
def gp_onE (P : Nat → Int × Int) (n : Nat) (p : Int × Int) : Int := gp_sm (fun i => if gp_hs P p i then 1 else 0) n
def gp_inE (P : Nat → Int × Int) (n : Nat) (p : Int × Int) : Int := if gp_onE P n p = 0 ∧ gp_w P n p ≠ 0 then 1 else 0
section
variable {P : Nat → Int × Int} {n : Nat}
theorem gp_onE_1 (h : gp_Poly P n) {p : Int × Int} (hv : ∀ j, p = P j ∨ gp_H (gp_d (P j) p) ≠ 0) {i : Nat} (hi : i < n) (h1 : gp_hs P p i) : gp_onE P n p = 1 := by
  unfold gp_onE
  rw [gp_sm_one hi (fun k hk ne => if_neg fun z => by
    rcases Nat.lt_or_gt_of_ne ne with c | c
    · exact gp_hs_uni h hv c (by omega) z h1
    · exact gp_hs_uni h hv c (by omega) h1 z), if_pos h1]
theorem gp_onE_0 {p : Int × Int} (h1 : ∀ i, i < n → ¬ gp_hs P p i) : gp_onE P n p = 0 :=
  gp_sm_zero fun k hk => if_neg (h1 k hk)
theorem gp_onE_iff (h : gp_Poly P n) {p : Int × Int} (hv : ∀ j, p = P j ∨ gp_H (gp_d (P j) p) ≠ 0) : (gp_onE P n p = 1 ∧ ∃ i, i < n ∧ gp_hs P p i) ∨ (gp_onE P n p = 0 ∧ ∀ i, i < n → ¬ gp_hs P p i) := by
  by_cases c : ∃ i, i < n ∧ gp_hs P p i
  · obtain ⟨i, hi, h1⟩ := c
    exact Or.inl ⟨gp_onE_1 h hv hi h1, i, hi, h1⟩
  · have : ∀ i, i < n → ¬ gp_hs P p i := fun i hi z => c ⟨i, hi, z⟩
    exact Or.inr ⟨gp_onE_0 this, this⟩
theorem gp_off_H {p : Int × Int} (h : gp_Poly P n) (hv : ∀ j, p = P j ∨ gp_H (gp_d (P j) p) ≠ 0) (h1 : ∀ i, i < n → ¬ gp_hs P p i) : (∀ j, p ≠ P j) ∧ ∀ j, gp_H (gp_d (P j) p) ≠ 0 := by
  have hn := h.1
  have : ∀ j, p ≠ P j := fun j e => h1 (j % n) (Nat.mod_lt _ (by omega)) (Or.inl (by rw [← gp_P_mod h.2.1]; exact e))
  exact ⟨this, fun j => (hv j).resolve_left (this j)⟩
theorem gp_point (h : gp_Poly P n) {p : Int × Int} (hv : ∀ j, p = P j ∨ gp_H (gp_d (P j) p) ≠ 0) :
    gp_qs P n p + gp_sm (fun i => if p = P (i + 1) then gp_corr P i else 0) n = (2 * gp_Ga P n - 1) * (4 * gp_inE P n p + 2 * gp_onE P n p) := by
  have hn := h.1
  have g01 := gp_Ga_01 h
  rcases gp_onE_iff h hv with ⟨e1, i, hi, h1⟩ | ⟨e0, h1⟩
  · have i0 : gp_inE P n p = 0 := by unfold gp_inE; rw [if_neg (by omega)]
    rw [i0, e1]
    by_cases c : p = P i
    · have ex : ∃ j, j < n ∧ p = P (j + 1) := by
        by_cases z : i = 0
        · exact ⟨n - 1, by omega, by rw [c, z, show n - 1 + 1 = 0 + n by omega, h.2.1]⟩
        · exact ⟨i - 1, by omega, by rw [c, show i - 1 + 1 = i by omega]⟩
      obtain ⟨j, hj, e⟩ := ex
      rw [gp_sm_one hj (fun k hk ne => if_neg fun z => by
        rcases Nat.lt_or_gt_of_ne ne with c | c
        · exact gp_P_ne h (k + 1) (j + 1) (by omega) (by omega) (z.symm.trans e)
        · exact gp_P_ne h (j + 1) (k + 1) (by omega) (by omega) (e.symm.trans z)), if_pos e, e, gp_pt_corner h j]
      rcases g01 with g | g <;> rw [g] <;> rfl
    · have o : gp_On p (P i) (P (i + 1)) := h1.resolve_left c
      have nv : ∀ j, p ≠ P j := fun j e => by
        have ej := gp_P_mod h.2.1 j
        rw [ej] at e
        have hm : j % n < n := Nat.mod_lt _ (by omega)
        by_cases ne : j % n = i
        · rw [ne] at e; exact c e
        · rcases Nat.lt_or_gt_of_ne ne with q | q
          · exact gp_hs_uni h hv q (by omega) (Or.inl e) h1
          · exact gp_hs_uni h hv q (by omega) h1 (Or.inl e)
      rw [gp_sm_zero (fun k hk => if_neg (nv (k + 1))), gp_pt_side h i o (fun j => (hv j).resolve_left (nv j))]
      rcases g01 with g | g <;> rw [g] <;> rfl
  · obtain ⟨nv, nH⟩ := gp_off_H h hv h1
    rw [gp_sm_zero (fun k hk => if_neg (nv (k + 1))), gp_pt_off (fun j _ => nv j) (fun j hj z => h1 j hj (Or.inr z)), e0]
    have w := gp_wind h p nH
    unfold gp_inE
    rcases g01 with g | g
    · rw [g] at w
      rw [g]
      repeat' split
      all_goals omega
    · rw [g] at w
      rw [g]
      repeat' split
      all_goals omega
end
theorem gp_gs_congr {f g : Nat → Nat → Int} (h : ∀ x y, x < 16 → y < 16 → f x y = g x y) : gp_gs f = gp_gs g :=
  gp_sm_congr fun y hy => gp_sm_congr fun x hx => h x y hx hy
theorem gp_gs_add (f g : Nat → Nat → Int) : gp_gs (fun x y => f x y + g x y) = gp_gs f + gp_gs g := by
  unfold gp_gs
  rw [← gp_sm_add]
  exact gp_sm_congr fun y _ => gp_sm_add _ _ _
theorem gp_gs_mul (c : Int) (f : Nat → Nat → Int) : gp_gs (fun x y => c * f x y) = c * gp_gs f := by
  unfold gp_gs
  rw [← gp_sm_mul]
  exact gp_sm_congr fun y _ => gp_sm_mul _ _ _
theorem gp_gs_sm (f : Nat → Nat → Nat → Int) (n : Nat) : gp_gs (fun x y => gp_sm (fun i => f i x y) n) = gp_sm (fun i => gp_gs (f i)) n := by
  unfold gp_gs
  have : ∀ y, gp_sm (fun x => gp_sm (fun i => f i x y) n) 16 = gp_sm (fun i => gp_sm (fun x => f i x y) 16) n := fun y => gp_sm_swap (fun x i => f i x y) 16 n
  rw [gp_sm_congr fun y _ => this y]
  exact gp_sm_swap (fun y i => gp_sm (fun x => f i x y) 16) 16 n
theorem gp_gs_one {a b : Nat} (ha : a < 16) (hb : b < 16) (v : Int) : gp_gs (fun x y => if gp_nn x y = gp_nn a b then v else 0) = v := by
  unfold gp_gs
  rw [gp_sm_one hb (fun y hy ne => gp_sm_zero fun x hx => if_neg fun z => by
    have := congrArg Prod.snd z; unfold gp_nn at this; try dsimp only at this; omega)]
  rw [gp_sm_one ha (fun x hx ne => if_neg fun z => by
    have := congrArg Prod.fst z; unfold gp_nn at this; try dsimp only at this; omega), if_pos rfl]
/-- grid corners -/
def gp_Grid (P : Nat → Int × Int) : Prop := ∀ i, 0 ≤ (P i).1 ∧ (P i).1 < 16 ∧ 0 ≤ (P i).2 ∧ (P i).2 < 16
theorem gp_Grid_nn {P : Nat → Int × Int} (hg : gp_Grid P) (i : Nat) : ∃ a b : Nat, a < 16 ∧ b < 16 ∧ P i = gp_nn a b := by
  obtain ⟨h1, h2, h3, h4⟩ := hg i
  refine ⟨(P i).1.toNat, (P i).2.toNat, by omega, by omega, ?_⟩
  unfold gp_nn
  rw [Int.toNat_of_nonneg h1, Int.toNat_of_nonneg h3]
theorem gp_Grid_v {P : Nat → Int × Int} (hg : gp_Grid P) {x y : Nat} (hx : x < 16) (hy : y < 16) (j : Nat) : gp_nn x y = P j ∨ gp_H (gp_d (P j) (gp_nn x y)) ≠ 0 := by
  obtain ⟨a, b, ha, hb, e⟩ := gp_Grid_nn hg j
  rw [e]
  by_cases c : x = a ∧ y = b
  · exact Or.inl (by rw [c.1, c.2])
  · refine Or.inr ?_
    unfold gp_H gp_d gp_nn
    try dsimp only
    omega
def gp_sA (P : Nat → Int × Int) (n : Nat) : Int := gp_sm (fun i => (P i).1 * (P (i + 1)).2 - (P (i + 1)).1 * (P i).2) n
def gp_cI (P : Nat → Int × Int) (n : Nat) : Int := gp_gs (fun x y => gp_inE P n (gp_nn x y))
def gp_cB (P : Nat → Int × Int) (n : Nat) : Int := gp_gs (fun x y => gp_onE P n (gp_nn x y))
theorem gp_pick {P : Nat → Int × Int} {n : Nat} (h : gp_Poly P n) (hg : gp_Grid P) :
    gp_sA P n = (2 * gp_Ga P n - 1) * (2 * gp_cI P n + gp_cB P n - 2) := by
  have a1 : gp_gs (fun x y => gp_qs P n (gp_nn x y) + gp_sm (fun i => if gp_nn x y = P (i + 1) then gp_corr P i else 0) n) = (2 * gp_Ga P n - 1) * (4 * gp_cI P n + 2 * gp_cB P n) := by
    rw [gp_gs_congr (fun x y hx hy => gp_point h (gp_Grid_v hg hx hy)), gp_gs_mul, gp_gs_add, gp_gs_mul, gp_gs_mul]
    rfl
  rw [gp_gs_add] at a1
  have a2 : gp_gs (fun x y => gp_sm (fun i => if gp_nn x y = P (i + 1) then gp_corr P i else 0) n) = gp_sm (fun i => gp_corr P i) n := by
    rw [gp_gs_sm (fun i x y => if gp_nn x y = P (i + 1) then gp_corr P i else 0)]
    refine gp_sm_congr fun i _ => ?_
    obtain ⟨a, b, ha, hb, e⟩ := gp_Grid_nn hg (i + 1)
    rw [e]
    exact gp_gs_one ha hb _
  have a3 : gp_sm (fun i => gp_corr P i) n = 4 * (2 * gp_Ga P n - 1) := by
    unfold gp_corr
    rw [gp_sm_add, gp_sm_sub, gp_sm_mul, gp_sm_mul, gp_sm_mul, gp_uml h]
    rw [gp_sm_per1 (fun i => gp_g (gp_e P i)) n (fun i => by (try dsimp only); rw [gp_e_per h])]
    omega
  have a4 : gp_gs (fun x y => gp_qs P n (gp_nn x y)) = 2 * gp_sA P n := by
    unfold gp_qs
    rw [gp_gs_sm (fun k x y => gp_q (gp_nn x y) (P k) (P (k + 1)))]
    have s : ∀ k, gp_gs (fun x y => gp_q (gp_nn x y) (P k) (P (k + 1))) = 2 * ((P k).1 * (P (k + 1)).2 - (P (k + 1)).1 * (P k).2) + ((2 * ((P (k + 1)).1 * (P (k + 1)).2 + (P (k + 1)).2 - (P (k + 1)).1)) - (2 * ((P k).1 * (P k).2 + (P k).2 - (P k).1))) := by
      intro k
      have ne := gp_P_e h k
      unfold gp_e at ne
      obtain ⟨a, b, ha, hb, e⟩ := gp_Grid_nn hg k
      obtain ⟨c, d, hc, hd, e'⟩ := gp_Grid_nn hg (k + 1)
      rw [e, e', gp_Hd] at ne
      rw [e, e', gp_side ha hb hc hd (by omega)]
      unfold gp_nn
      try dsimp only
      grind
    rw [gp_sm_congr fun k _ => s k, gp_sm_add, gp_sm_tel (fun k => 2 * ((P k).1 * (P k).2 + (P k).2 - (P k).1)), gp_sm_mul]
    have e := h.2.1 0
    rw [Nat.zero_add] at e
    rw [e]
    unfold gp_sA
    omega
  rw [a2, a3, a4] at a1
  grind
end
section
/-! points on the edge: greatest common divisors -/
theorem gp_spos' {a D : Int} (hD : 0 < D) : (0 < a * D ↔ 0 < a) ∧ (a * D < 0 ↔ a < 0) := by
  have := gp_sgn a D
  omega
theorem gp_sneg' {a D : Int} (hD : D < 0) : (0 < a * D ↔ a < 0) ∧ (a * D < 0 ↔ 0 < a) := by
  have := gp_sgn a D
  omega
theorem gp_sr {X q p d : Int} (e : X * q = p * d) (hq : q ≠ 0) (hd : d ≠ 0) :
    ((0 < q ∧ 0 < d) ∨ (q < 0 ∧ d < 0) → (0 < X ↔ 0 < p) ∧ (X < 0 ↔ p < 0)) ∧ ((0 < q ∧ d < 0) ∨ (q < 0 ∧ 0 < d) → (0 < X ↔ p < 0) ∧ (X < 0 ↔ 0 < p)) := by
  rcases Int.lt_or_gt_of_ne hq with a | a <;> rcases Int.lt_or_gt_of_ne hd with b | b
  · have s1 := gp_sneg' (a := X) a
    have s2 := gp_sneg' (a := p) b
    rw [e] at s1
    omega
  · have s1 := gp_sneg' (a := X) a
    have s2 := gp_spos' (a := p) b
    rw [e] at s1
    omega
  · have s1 := gp_spos' (a := X) a
    have s2 := gp_sneg' (a := p) b
    rw [e] at s1
    omega
  · have s1 := gp_spos' (a := X) a
    have s2 := gp_spos' (a := p) b
    rw [e] at s1
    omega
def gp_L (a b : Int × Int) : Int := gp_gs (fun x y => if gp_nn x y = a ∨ gp_On (gp_nn x y) a b then 1 else 0)
theorem gp_cB_eq (P : Nat → Int × Int) (n : Nat) : gp_cB P n = gp_sm (fun i => gp_L (P i) (P (i + 1))) n := by
  unfold gp_cB gp_onE
  exact gp_gs_sm (fun i x y => if gp_hs P (gp_nn x y) i then 1 else 0) n
theorem gp_mem' {X Y dx dy : Int} (hX : X < 16 ∧ -16 < X ∧ Y < 16 ∧ -16 < Y ∧ dx < 16 ∧ -16 < dx ∧ dy < 16 ∧ -16 < dy) (hne : dx ≠ 0) :
    ((X = 0 ∧ Y = 0) ∨ (X * dy - Y * dx = 0 ∧ ((0 < 64 * Y - X ∧ 64 * Y - X < 64 * dy - dx) ∨ (64 * dy - dx < 64 * Y - X ∧ 64 * Y - X < 0)))) ↔
    (X * dy = Y * dx ∧ ((0 ≤ X ∧ X < dx) ∨ (dx < X ∧ X ≤ 0))) := by
  constructor
  · rintro (⟨rfl, rfl⟩ | ⟨z, o⟩)
    · exact ⟨by rw [Int.zero_mul, Int.zero_mul], by omega⟩
    · have e1 : X * (64 * dy - dx) = (64 * Y - X) * dx := by grind
      have e2 : (X - dx) * (64 * dy - dx) = ((64 * Y - X) - (64 * dy - dx)) * dx := by grind
      have s1 := gp_sr e1 (by omega) hne
      have s2 := gp_sr e2 (by omega) hne
      clear e1 e2
      refine ⟨by omega, ?_⟩
      clear z
      omega
  · rintro ⟨z, o⟩
    by_cases x0 : X = 0
    · left
      refine ⟨x0, ?_⟩
      rw [x0, Int.zero_mul] at z
      rcases gp_mzero.mp z.symm with q | q
      · exact q
      · exact absurd q hne
    · right
      refine ⟨by omega, ?_⟩
      have e1 : X * (64 * dy - dx) = (64 * Y - X) * dx := by grind
      have e2 : (X - dx) * (64 * dy - dx) = ((64 * Y - X) - (64 * dy - dx)) * dx := by grind
      have s1 := gp_sr e1 (by omega) hne
      have s2 := gp_sr e2 (by omega) hne
      clear e1 e2 z
      omega
theorem gp_mem0 (ax ay bx by' x y : Nat) :
    (gp_nn x y = gp_nn ax ay ∨ gp_On (gp_nn x y) (gp_nn ax ay) (gp_nn bx by')) ↔
    (((x : Int) - ax = 0 ∧ (y : Int) - ay = 0) ∨ (((x : Int) - ax) * ((by' : Int) - ay) - ((y : Int) - ay) * ((bx : Int) - ax) = 0 ∧ ((0 < 64 * ((y : Int) - ay) - ((x : Int) - ax) ∧ 64 * ((y : Int) - ay) - ((x : Int) - ax) < 64 * ((by' : Int) - ay) - ((bx : Int) - ax)) ∨ (64 * ((by' : Int) - ay) - ((bx : Int) - ax) < 64 * ((y : Int) - ay) - ((x : Int) - ax) ∧ 64 * ((y : Int) - ay) - ((x : Int) - ax) < 0)))) := by
  have e : gp_nn x y = gp_nn ax ay ↔ ((x : Int) - ax = 0 ∧ (y : Int) - ay = 0) := by
    unfold gp_nn
    rw [Prod.mk.injEq]
    omega
  rw [e]
  unfold gp_On gp_x gp_d gp_H gp_nn
  dsimp only
  generalize ((x : Int) - ax) * ((by' : Int) - ay) - ((y : Int) - ay) * ((bx : Int) - ax) = T
  omega
theorem gp_mem {ax ay bx by' x y : Nat} (h1 : ax < 16) (h2 : ay < 16) (h3 : bx < 16) (h4 : by' < 16) (h5 : x < 16) (h6 : y < 16) (hne : ax ≠ bx) :
    (gp_nn x y = gp_nn ax ay ∨ gp_On (gp_nn x y) (gp_nn ax ay) (gp_nn bx by')) ↔
    (((x : Int) - ax) * ((by' : Int) - ay) = ((y : Int) - ay) * ((bx : Int) - ax) ∧ ((ax ≤ x ∧ x < bx) ∨ (bx < x ∧ x ≤ ax))) := by
  rw [gp_mem0, gp_mem' (by omega) (by omega)]
  generalize ((x : Int) - ax) * ((by' : Int) - ay) = A
  generalize ((y : Int) - ay) * ((bx : Int) - ax) = B
  omega
theorem gp_col {ax ay bx by' x : Nat} (h1 : ax < 16) (h2 : ay < 16) (h3 : bx < 16) (h4 : by' < 16) (h5 : x < 16) (hne : ax ≠ bx) :
    gp_sm (fun y => if gp_nn x y = gp_nn ax ay ∨ gp_On (gp_nn x y) (gp_nn ax ay) (gp_nn bx by') then (1 : Int) else 0) 16
      = if ((bx : Int) - ax) ∣ ((x : Int) - ax) * ((by' : Int) - ay) ∧ ((ax ≤ x ∧ x < bx) ∨ (bx < x ∧ x ≤ ax)) then 1 else 0 := by
  by_cases r : (ax ≤ x ∧ x < bx) ∨ (bx < x ∧ x ≤ ax)
  · by_cases dv : ((bx : Int) - ax) ∣ ((x : Int) - ax) * ((by' : Int) - ay)
    · rw [if_pos ⟨dv, r⟩]
      obtain ⟨k, hk⟩ := dv
      have bd : (0 ≤ k ∧ k ≤ (by' : Int) - ay) ∨ ((by' : Int) - ay ≤ k ∧ k ≤ 0) := by
        have e2 : ((x : Int) - ax - ((bx : Int) - ax)) * ((by' : Int) - ay) = ((bx : Int) - ax) * (k - ((by' : Int) - ay)) := by grind
        have e1 : k * ((bx : Int) - ax) = ((x : Int) - ax) * ((by' : Int) - ay) := by rw [hk, Int.mul_comm]
        have e2' : (k - ((by' : Int) - ay)) * ((bx : Int) - ax) = ((x : Int) - ax - ((bx : Int) - ax)) * ((by' : Int) - ay) := by rw [e2, Int.mul_comm]
        by_cases d0 : (by' : Int) - ay = 0
        · rw [d0, Int.mul_zero] at e1
          rcases gp_mzero.mp e1 with q | q <;> omega
        · have s1 := gp_sr e1 (by omega) d0
          have s2 := gp_sr e2' (by omega) d0
          clear e1 e2 e2' hk
          omega
      have yy : ∃ y0 : Nat, (y0 : Int) = ay + k ∧ y0 < 16 := ⟨((ay : Int) + k).toNat, by omega, by omega⟩
      obtain ⟨y0, e0, hy0⟩ := yy
      rw [gp_sm_one hy0 (fun y hy ne => if_neg fun z => ?_), if_pos]
      · rw [gp_mem h1 h2 h3 h4 h5 hy0 hne]
        refine ⟨?_, r⟩
        rw [hk, show (y0 : Int) - ay = k by omega, Int.mul_comm]
      · rw [gp_mem h1 h2 h3 h4 h5 hy hne, hk] at z
        have z1 : ((bx : Int) - ax) * (k - ((y : Int) - ay)) = 0 := by grind
        rcases gp_mzero.mp z1 with q | q
        · omega
        · omega
    · rw [if_neg (fun z => dv z.1)]
      refine gp_sm_zero fun y hy => if_neg fun z => ?_
      rw [gp_mem h1 h2 h3 h4 h5 hy hne] at z
      exact dv ⟨(y : Int) - ay, by rw [z.1, Int.mul_comm]⟩
  · rw [if_neg (fun z => r z.2)]
    refine gp_sm_zero fun y hy => if_neg fun z => ?_
    rw [gp_mem h1 h2 h3 h4 h5 hy hne] at z
    exact r z.2
theorem gp_gcd_tab : ∀ D, D < 16 → ∀ E, E < 16 → 0 < D → gp_sm (fun t => if D ∣ t * E then (1 : Int) else 0) D = (Nat.gcd D E : Int) := by decide +kernel
theorem gp_dvd_nat {D t : Nat} {dx X dy : Int} (h1 : dx.natAbs = D) (h2 : X.natAbs = t) : dx ∣ X * dy ↔ D ∣ t * dy.natAbs := by
  rw [← Int.natAbs_dvd_natAbs, Int.natAbs_mul, h1, h2]
theorem gp_L_ne {ax ay bx by' : Nat} (h1 : ax < 16) (h2 : ay < 16) (h3 : bx < 16) (h4 : by' < 16) (hne : ax ≠ bx) :
    gp_L (gp_nn ax ay) (gp_nn bx by') = (Nat.gcd ((bx : Int) - ax).natAbs ((by' : Int) - ay).natAbs : Int) := by
  unfold gp_L gp_gs
  rw [gp_sm_swap (fun y x => if gp_nn x y = gp_nn ax ay ∨ gp_On (gp_nn x y) (gp_nn ax ay) (gp_nn bx by') then (1 : Int) else 0)]
  rw [gp_sm_congr fun x hx => gp_col h1 h2 h3 h4 hx hne]
  obtain ⟨D, hD⟩ : ∃ D : Nat, ((bx : Int) - ax).natAbs = D := ⟨_, rfl⟩
  rw [hD]
  have tab := gp_gcd_tab D (by omega) ((by' : Int) - ay).natAbs (by omega) (by omega)
  rw [← tab]
  by_cases c : ax < bx
  · obtain ⟨r, hr⟩ : ∃ r, 16 = ax + (D + r) := ⟨16 - bx, by omega⟩
    rw [hr, gp_sm_app, gp_sm_app]
    rw [gp_sm_zero (fun x hx => if_neg (by omega)), gp_sm_zero (f := fun i => if ((bx : Int) - ax) ∣ (((ax + (D + i) : Nat) : Int) - ax) * ((by' : Int) - ay) ∧ ((ax ≤ ax + (D + i) ∧ ax + (D + i) < bx) ∨ (bx < ax + (D + i) ∧ ax + (D + i) ≤ ax)) then (1 : Int) else 0) (fun x hx => if_neg (by omega))]
    rw [Int.zero_add, Int.add_zero]
    refine gp_sm_congr fun t ht => ?_
    have q := gp_dvd_nat (D := D) (t := t) (X := ((ax + t : Nat) : Int) - ax) (dy := (by' : Int) - ay) hD (by omega)
    by_cases d : D ∣ t * ((by' : Int) - ay).natAbs
    · rw [if_pos d, if_pos ⟨q.mpr d, by omega⟩]
    · rw [if_neg d, if_neg (fun z => d (q.mp z.1))]
  · obtain ⟨b1, hb1⟩ : ∃ b1, b1 = bx + 1 := ⟨_, rfl⟩
    obtain ⟨r, hr⟩ : ∃ r, 16 = b1 + (D + r) := ⟨16 - ax - 1, by omega⟩
    rw [hr, gp_sm_app, gp_sm_app]
    rw [gp_sm_zero (fun x hx => if_neg (by omega)), gp_sm_zero (f := fun i => if ((bx : Int) - ax) ∣ (((b1 + (D + i) : Nat) : Int) - ax) * ((by' : Int) - ay) ∧ ((ax ≤ b1 + (D + i) ∧ b1 + (D + i) < bx) ∨ (bx < b1 + (D + i) ∧ b1 + (D + i) ≤ ax)) then (1 : Int) else 0) (fun x hx => if_neg (by omega))]
    rw [Int.zero_add, Int.add_zero, ← gp_sm_rev (fun t => if D ∣ t * ((by' : Int) - ay).natAbs then (1 : Int) else 0) D]
    refine gp_sm_congr fun t ht => ?_
    have q := gp_dvd_nat (D := D) (t := D - 1 - t) (X := ((b1 + t : Nat) : Int) - ax) (dy := (by' : Int) - ay) hD (by omega)
    by_cases d : D ∣ (D - 1 - t) * ((by' : Int) - ay).natAbs
    · rw [if_pos d, if_pos ⟨q.mpr d, by omega⟩]
    · rw [if_neg d, if_neg (fun z => d (q.mp z.1))]
theorem gp_L_eq {ax ay by' : Nat} (h1 : ax < 16) (h2 : ay < 16) (h4 : by' < 16) :
    gp_L (gp_nn ax ay) (gp_nn ax by') = if ay = by' then 1 else (((by' : Int) - ay).natAbs : Int) := by
  have m : ∀ x y : Nat, (gp_nn x y = gp_nn ax ay ∨ gp_On (gp_nn x y) (gp_nn ax ay) (gp_nn ax by')) ↔ (x = ax ∧ y = ay) ∨ (x = ax ∧ ((ay < y ∧ y < by') ∨ (by' < y ∧ y < ay))) := by
    intro x y
    rw [gp_mem0, Int.sub_self, Int.mul_zero, Int.sub_zero, gp_mzero]
    by_cases q : by' = ay
    · omega
    · omega
  have v : ∀ x y : Nat, (if gp_nn x y = gp_nn ax ay ∨ gp_On (gp_nn x y) (gp_nn ax ay) (gp_nn ax by') then (1 : Int) else 0) = if (x = ax ∧ y = ay) ∨ (x = ax ∧ ((ay < y ∧ y < by') ∨ (by' < y ∧ y < ay))) then 1 else 0 := by
    intro x y
    by_cases z : gp_nn x y = gp_nn ax ay ∨ gp_On (gp_nn x y) (gp_nn ax ay) (gp_nn ax by')
    · rw [if_pos z, if_pos ((m x y).mp z)]
    · rw [if_neg z, if_neg (fun w => z ((m x y).mpr w))]
  unfold gp_L
  rw [gp_gs_congr (fun x y _ _ => v x y)]
  unfold gp_gs
  rw [gp_sm_swap (fun y x => if (x = ax ∧ y = ay) ∨ (x = ax ∧ ((ay < y ∧ y < by') ∨ (by' < y ∧ y < ay))) then (1 : Int) else 0)]
  rw [gp_sm_one h1 (fun x hx ne => gp_sm_zero fun y hy => if_neg (by omega))]
  have : ∀ k : Nat, gp_sm (fun y => if (ax = ax ∧ y = ay) ∨ (ax = ax ∧ ((ay < y ∧ y < by') ∨ (by' < y ∧ y < ay))) then (1 : Int) else 0) k =
      if ay = by' then (if k ≤ ay then 0 else 1) else if ay < by' then (if k ≤ ay then 0 else if k ≤ by' then (k : Int) - ay else (by' : Int) - ay) else (if k ≤ by' + 1 then 0 else if k ≤ ay + 1 then (k : Int) - by' - 1 else (ay : Int) - by') := by
    intro k
    induction k with
    | zero => rw [gp_sm_0]; repeat' split
              all_goals omega
    | succ k ih =>
      rw [gp_sm_s, ih]
      clear ih m v
      repeat' split
      all_goals omega
  rw [this]
  repeat' split
  all_goals omega
theorem gp_L_gcd {a b : Int × Int} (ha : 0 ≤ a.1 ∧ a.1 < 16 ∧ 0 ≤ a.2 ∧ a.2 < 16) (hb : 0 ≤ b.1 ∧ b.1 < 16 ∧ 0 ≤ b.2 ∧ b.2 < 16) (hne : gp_H a ≠ gp_H b) :
    gp_L a b = (Nat.gcd (b.1 - a.1).natAbs (b.2 - a.2).natAbs : Int) := by
  obtain ⟨a1, a2⟩ := a
  obtain ⟨b1, b2⟩ := b
  dsimp only at *
  obtain ⟨ax, rfl⟩ : ∃ k : Nat, a1 = k := ⟨a1.toNat, by omega⟩
  obtain ⟨ay, rfl⟩ : ∃ k : Nat, a2 = k := ⟨a2.toNat, by omega⟩
  obtain ⟨bx, rfl⟩ : ∃ k : Nat, b1 = k := ⟨b1.toNat, by omega⟩
  obtain ⟨by', rfl⟩ : ∃ k : Nat, b2 = k := ⟨b2.toNat, by omega⟩
  by_cases c : ax = bx
  · subst c
    have := gp_L_eq (ax := ax) (ay := ay) (by' := by') (by omega) (by omega) (by omega)
    unfold gp_nn at this
    have ne : ay ≠ by' := fun z => hne (by rw [z])
    rw [this, if_neg ne, Int.sub_self]
    simp
  · exact gp_L_ne (by omega) (by omega) (by omega) (by omega) c
theorem gp_edges {P : Nat → Int × Int} {n : Nat} (h : gp_Poly P n) (hg : gp_Grid P) :
    gp_cB P n = gp_sm (fun i => (Nat.gcd ((P (i + 1)).1 - (P i).1).natAbs ((P (i + 1)).2 - (P i).2).natAbs : Int)) n := by
  rw [gp_cB_eq]
  refine gp_sm_congr fun i _ => gp_L_gcd (hg i) (hg (i + 1)) fun e => ?_
  have := gp_P_e h i
  unfold gp_e at this
  rw [gp_Hd] at this
  omega
end
section
/-! segments that don't meet are separated; a proper polygon is a gp_Poly -/
def gp_turn (a b c : Int × Int) : Int := (b.1 - a.1) * (c.2 - a.2) - (b.2 - a.2) * (c.1 - a.1)
abbrev gp_bt (v a b : Int) : Prop := (a ≤ v ∧ v ≤ b) ∨ (b ≤ v ∧ v ≤ a)
abbrev gp_os (p a b : Int × Int) : Prop := gp_turn a b p = 0 ∧ gp_bt p.1 a.1 b.1 ∧ gp_bt p.2 a.2 b.2
abbrev gp_meet (a b c d : Int × Int) : Prop := (gp_turn a b c * gp_turn a b d < 0 ∧ gp_turn c d a * gp_turn c d b < 0) ∨ gp_os c a b ∨ gp_os d a b ∨ gp_os a c d ∨ gp_os b c d
/-- within the doubled grid -/
def gp_in (p : Int × Int) : Prop := 0 ≤ p.1 ∧ p.1 < 32 ∧ 0 ≤ p.2 ∧ p.2 < 32
theorem gp_turn_x (a b c : Int × Int) : gp_turn a b c = gp_x (gp_d b a) (gp_d c a) := rfl
theorem gp_in_H {a b : Int × Int} (ha : gp_in a) (hb : gp_in b) (h : gp_H a = gp_H b) : a = b := by
  unfold gp_in at *
  unfold gp_H at h
  exact Prod.ext (by omega) (by omega)
theorem gp_in_Hne {a b : Int × Int} (ha : gp_in a) (hb : gp_in b) (h : a ≠ b) : gp_H a ≠ gp_H b := fun e => h (gp_in_H ha hb e)
theorem gp_btw {U V Hu Hv : Int} (e : U * Hv = Hu * V) (hv : Hv ≠ 0) (h : (0 ≤ Hu ∧ Hu ≤ Hv) ∨ (Hv ≤ Hu ∧ Hu ≤ 0)) : (0 ≤ U ∧ U ≤ V) ∨ (V ≤ U ∧ U ≤ 0) := by
  by_cases v0 : V = 0
  · rw [v0, Int.mul_zero] at e
    rcases gp_mzero.mp e with q | q <;> omega
  · have e2 : (U - V) * Hv = (Hu - Hv) * V := by grind
    have s1 := gp_sr e hv v0
    have s2 := gp_sr e2 hv v0
    clear e e2
    omega
theorem gp_btw2 {U V Hu Hv : Int} (e : U * Hv = Hu * V) (hv : Hv ≠ 0) (v0 : V ≠ 0) (h : (0 ≤ U ∧ U ≤ V) ∨ (V ≤ U ∧ U ≤ 0)) : (0 ≤ Hu ∧ Hu ≤ Hv) ∨ (Hv ≤ Hu ∧ Hu ≤ 0) := by
  have e2 : (U - V) * Hv = (Hu - Hv) * V := by grind
  have s1 := gp_sr e hv v0
  have s2 := gp_sr e2 hv v0
  clear e e2
  omega
theorem gp_os_H {p a b : Int × Int} (hab : gp_H a ≠ gp_H b) : gp_os p a b ↔ gp_turn a b p = 0 ∧ ((gp_H a ≤ gp_H p ∧ gp_H p ≤ gp_H b) ∨ (gp_H b ≤ gp_H p ∧ gp_H p ≤ gp_H a)) := by
  by_cases t : gp_turn a b p = 0
  · have hu := gp_Hd p a
    have hv := gp_Hd b a
    have hv0 : gp_H (gp_d b a) ≠ 0 := by omega
    have z : gp_x (gp_d p a) (gp_d b a) = 0 := by rw [gp_turn_x] at t; rw [gp_xs (gp_d b a) (gp_d p a)]; omega
    have e1 : (p.1 - a.1) * gp_H (gp_d b a) = gp_H (gp_d p a) * (b.1 - a.1) := by
      unfold gp_x gp_d at z; unfold gp_H gp_d; dsimp only at *; grind
    have e2 : (p.2 - a.2) * gp_H (gp_d b a) = gp_H (gp_d p a) * (b.2 - a.2) := by
      unfold gp_x gp_d at z; unfold gp_H gp_d; dsimp only at *; grind
    constructor
    · rintro ⟨_, h1, h2⟩
      refine ⟨t, ?_⟩
      unfold gp_bt at h1 h2
      by_cases v0 : b.1 - a.1 = 0
      · by_cases v1 : b.2 - a.2 = 0
        · exfalso; apply hv0; unfold gp_H gp_d; dsimp only; omega
        · have := gp_btw2 e2 hv0 v1 (by omega)
          omega
      · have := gp_btw2 e1 hv0 v0 (by omega)
        omega
    · rintro ⟨_, h⟩
      have b1 := gp_btw e1 hv0 (by omega)
      have b2 := gp_btw e2 hv0 (by omega)
      exact ⟨t, by unfold gp_bt; omega, by unfold gp_bt; omega⟩
  · constructor
    · exact fun h => absurd h.1 t
    · exact fun h => absurd h.1 t
theorem gp_os_On {p a b : Int × Int} (hab : gp_H a ≠ gp_H b) (h : gp_On p a b) : gp_os p a b := by
  rw [gp_os_H hab]
  have := h.1
  have o := h.2
  refine ⟨?_, by omega⟩
  rw [gp_turn_x, gp_xs (gp_d p a) (gp_d b a), this]; rfl
theorem gp_os_cases {p a b : Int × Int} (hp : gp_in p) (ha : gp_in a) (hb : gp_in b) (hab : a ≠ b) (h : gp_os p a b) : p = a ∨ p = b ∨ gp_On p a b := by
  rw [gp_os_H (gp_in_Hne ha hb hab)] at h
  by_cases e1 : p = a
  · exact Or.inl e1
  · by_cases e2 : p = b
    · exact Or.inr (Or.inl e2)
    · have n1 := gp_in_Hne hp ha e1
      have n2 := gp_in_Hne hp hb e2
      refine Or.inr (Or.inr ⟨?_, by omega⟩)
      have := h.1
      rw [gp_turn_x, gp_xs (gp_d p a) (gp_d b a)] at this
      omega
theorem gp_Sep_sw2 {q q' p p' : Int × Int} (h : gp_Sep q q' p p') : gp_Sep q q' p' p := by
  obtain ⟨u, a, b, c, d⟩ := h
  exact ⟨u, c, d, a, b⟩
theorem gp_sep_cd {a b c d : Int × Int} (h : (0 < gp_turn c d a ∧ 0 < gp_turn c d b) ∨ (gp_turn c d a < 0 ∧ gp_turn c d b < 0)) : gp_Sep a b c d := by
  rcases h with ⟨h1, h2⟩ | ⟨h1, h2⟩
  · refine ⟨(d.2 - c.2, c.1 - d.1), ?_, ?_, ?_, ?_⟩
    all_goals
      unfold gp_turn at h1 h2
      unfold gp_f gp_d
      dsimp only
      grind
  · refine ⟨(c.2 - d.2, d.1 - c.1), ?_, ?_, ?_, ?_⟩
    all_goals
      unfold gp_turn at h1 h2
      unfold gp_f gp_d
      dsimp only
      grind
theorem gp_sep_H {a b c d : Int × Int} (h : (gp_H a < gp_H c ∧ gp_H a < gp_H d ∧ gp_H b < gp_H c ∧ gp_H b < gp_H d) ∨ (gp_H c < gp_H a ∧ gp_H d < gp_H a ∧ gp_H c < gp_H b ∧ gp_H d < gp_H b)) : gp_Sep a b c d := by
  rcases h with h | h
  · refine ⟨(-1, 64), ?_, ?_, ?_, ?_⟩
    all_goals
      have e : ∀ y : Int × Int, gp_f (-1, 64) y = gp_H y := fun y => by unfold gp_f gp_H; dsimp only; omega
      rw [e, gp_Hd]
      omega
  · refine ⟨(1, -64), ?_, ?_, ?_, ?_⟩
    all_goals
      have e : ∀ y : Int × Int, gp_f (1, -64) y = - gp_H y := fun y => by unfold gp_f gp_H; dsimp only; omega
      rw [e, gp_Hd]
      omega
/-- one end on the other's line -/
theorem gp_sep_z {a b c d : Int × Int} (hab : gp_H a ≠ gp_H b) (hcd : gp_H c ≠ gp_H d)
    (n1 : ¬ gp_os c a b) (n2 : ¬ gp_os d a b) (n3 : ¬ gp_os a c d) (t1 : gp_turn a b c = 0) : gp_Sep a b c d := by
  rw [gp_os_H hab] at n1 n2
  rw [gp_os_H hcd] at n3
  have n1 : ¬ ((gp_H a ≤ gp_H c ∧ gp_H c ≤ gp_H b) ∨ (gp_H b ≤ gp_H c ∧ gp_H c ≤ gp_H a)) := fun z => n1 ⟨t1, z⟩
  by_cases t2 : gp_turn a b d = 0
  · have n2 : ¬ ((gp_H a ≤ gp_H d ∧ gp_H d ≤ gp_H b) ∨ (gp_H b ≤ gp_H d ∧ gp_H d ≤ gp_H a)) := fun z => n2 ⟨t2, z⟩
    have z : gp_x (gp_d c a) (gp_d b a) = 0 := by rw [gp_turn_x] at t1; rw [gp_xs (gp_d b a) (gp_d c a)]; omega
    have px := gp_parx z (gp_d d a)
    rw [gp_turn_x] at t2
    rw [t2, Int.mul_zero] at px
    have hv := gp_Hd b a
    have x0 : gp_x (gp_d c a) (gp_d d a) = 0 := by
      rcases gp_mzero.mp px with q | q
      · exact q
      · omega
    have t3 : gp_turn c d a = 0 := by
      unfold gp_x gp_d at x0; unfold gp_turn; dsimp only at x0; grind
    have n3 : ¬ ((gp_H c ≤ gp_H a ∧ gp_H a ≤ gp_H d) ∨ (gp_H d ≤ gp_H a ∧ gp_H a ≤ gp_H c)) := fun z => n3 ⟨t3, z⟩
    exact gp_sep_H (by omega)
  · have z : gp_x (gp_d a c) (gp_d b c) = 0 := by
      unfold gp_turn at t1; unfold gp_x gp_d; dsimp only; grind
    have px := gp_parx z (gp_d d c)
    have hu := gp_Hd a c
    have hv := gp_Hd b c
    have e3 : gp_x (gp_d a c) (gp_d d c) = - gp_turn c d a := by rw [gp_turn_x, gp_xs (gp_d d c)]
    have e4 : gp_x (gp_d b c) (gp_d d c) = - gp_turn c d b := by rw [gp_turn_x, gp_xs (gp_d d c)]
    rw [e3, e4] at px
    have e5 : gp_turn c d b - gp_turn c d a = - gp_turn a b d := by
      unfold gp_turn at *; grind
    by_cases t4 : gp_turn c d b = 0
    · rw [t4] at px
      have : - gp_turn c d a * gp_H (gp_d b c) = 0 := by rw [px]; simp
      rcases gp_mzero.mp this with q | q <;> omega
    · have s := gp_sr px (by omega) (by omega)
      clear px
      exact gp_sep_cd (by omega)
theorem gp_sep_of {a b c d : Int × Int} (hab : gp_H a ≠ gp_H b) (hcd : gp_H c ≠ gp_H d) (h : ¬ gp_meet a b c d) : gp_Sep a b c d := by
  have m0 : ¬ (gp_turn a b c * gp_turn a b d < 0 ∧ gp_turn c d a * gp_turn c d b < 0) := fun z => h (Or.inl z)
  have m1 : ¬ gp_os c a b := fun z => h (Or.inr (Or.inl z))
  have m2 : ¬ gp_os d a b := fun z => h (Or.inr (Or.inr (Or.inl z)))
  have m3 : ¬ gp_os a c d := fun z => h (Or.inr (Or.inr (Or.inr (Or.inl z))))
  have m4 : ¬ gp_os b c d := fun z => h (Or.inr (Or.inr (Or.inr (Or.inr z))))
  have sw : ∀ {p x y : Int × Int}, gp_os p x y → gp_os p y x := by
    rintro p x y ⟨t, u, v⟩
    refine ⟨?_, by unfold gp_bt at *; omega, by unfold gp_bt at *; omega⟩
    unfold gp_turn at *
    grind
  by_cases t1 : gp_turn a b c = 0
  · exact gp_sep_z hab hcd m1 m2 m3 t1
  · by_cases t2 : gp_turn a b d = 0
    · exact gp_Sep_sw2 (gp_sep_z hab (fun e => hcd e.symm) m2 m1 (fun z => m3 (sw z)) t2)
    · by_cases t3 : gp_turn c d a = 0
      · exact gp_Sep_rev (gp_sep_z hcd hab m3 m4 m1 t3)
      · by_cases t4 : gp_turn c d b = 0
        · exact gp_Sep_sw (gp_Sep_rev (gp_sep_z hcd (fun e => hab e.symm) m4 m3 (fun z => m1 (sw z)) t4))
        · have s1 := gp_sgn (gp_turn a b c) (gp_turn a b d)
          have s2 := gp_sgn (gp_turn c d a) (gp_turn c d b)
          by_cases q : (0 < gp_turn c d a ∧ 0 < gp_turn c d b) ∨ (gp_turn c d a < 0 ∧ gp_turn c d b < 0)
          · exact gp_sep_cd q
          · exact gp_Sep_rev (gp_sep_cd (by omega))
theorem gp_meet_sym {a b c d : Int × Int} (h : gp_meet a b c d) : gp_meet c d a b := by
  rcases h with h | h | h | h | h
  · exact Or.inl ⟨h.2, h.1⟩
  · exact Or.inr (Or.inr (Or.inr (Or.inl h)))
  · exact Or.inr (Or.inr (Or.inr (Or.inr h)))
  · exact Or.inr (Or.inl h)
  · exact Or.inr (Or.inr (Or.inl h))
/-- the sides at a corner lie one on the other -/
abbrev gp_fold (h i k : Int × Int) : Prop := gp_turn h i k = 0 ∧ 0 < (k.1 - i.1) * (h.1 - i.1) + (k.2 - i.2) * (h.2 - i.2)
theorem gp_nf_of {h i k : Int × Int} (h1 : gp_H h ≠ gp_H i) (h2 : gp_H i ≠ gp_H k) (nf : ¬ gp_fold h i k) : gp_NF (gp_d i h) (gp_d k i) := by
  intro z
  have he := gp_Hd i h
  have hf := gp_Hd k i
  by_cases q : 0 < gp_H (gp_d i h) ↔ 0 < gp_H (gp_d k i)
  · exact q
  · exfalso
    apply nf
    refine ⟨?_, ?_⟩
    · unfold gp_x gp_d at z; unfold gp_turn; dsimp only at z; grind
    · have z' : gp_x (gp_d k i) (gp_d i h) = 0 := by rw [gp_xs (gp_d i h)]; omega
      have e := gp_par z' (gp_d i h)
      have pos : 0 < gp_f (gp_d i h) (gp_d i h) := by
        unfold gp_f
        by_cases c1 : (gp_d i h).1 = 0
        · have c2 : (gp_d i h).2 ≠ 0 := fun c2 => by
            apply h1
            have : gp_H (gp_d i h) = 0 := by unfold gp_H; omega
            omega
          have s := gp_sgn (gp_d i h).2 (gp_d i h).2
          rw [c1]
          omega
        · have s := gp_sgn (gp_d i h).1 (gp_d i h).1
          have s' := gp_sgn (gp_d i h).2 (gp_d i h).2
          omega
      have e2 : (k.1 - i.1) * (h.1 - i.1) + (k.2 - i.2) * (h.2 - i.2) = - gp_f (gp_d i h) (gp_d k i) := by
        unfold gp_f gp_d; dsimp only; grind
      have s := gp_sr e (by omega) (by omega)
      clear e
      omega
def gp_Prop (P : Nat → Int × Int) (n : Nat) : Prop :=
  3 ≤ n ∧ (∀ i, i < n → ∀ k, k < i → P i ≠ P k) ∧
  (∀ i, i < n → ∀ k, k < i → k + 1 ≠ i → ¬ (k = 0 ∧ i + 1 = n) → ¬ gp_meet (P i) (P (i + 1)) (P k) (P (k + 1))) ∧
  (∀ i, i < n → ¬ gp_fold (P (i + n - 1)) (P i) (P (i + 1)))
theorem gp_Poly_of {P : Nat → Int × Int} {n : Nat} (hper : ∀ i, P (i + n) = P i) (hin : ∀ i, gp_in (P i)) (h : gp_Prop P n) : gp_Poly P n := by
  obtain ⟨hn, h1, h2, h3⟩ := h
  have ne : ∀ i j, i < j → j < i + n → P j ≠ P i := by
    intro i j hij hj
    rw [gp_P_mod hper i, gp_P_mod hper j]
    have a := Nat.mod_lt i (show 0 < n by omega)
    have b := Nat.mod_lt j (show 0 < n by omega)
    have c : j % n ≠ i % n := by
      intro e
      have q1 := Nat.div_add_mod i n
      have q2 := Nat.div_add_mod j n
      have : n * (j / n) - n * (i / n) = j - i := by omega
      rw [← Nat.mul_sub] at this
      have h0 : j / n - i / n ≠ 0 := fun z => by rw [z] at this; omega
      have : n * 1 ≤ n * (j / n - i / n) := Nat.mul_le_mul_left n (by omega)
      omega
    rcases Nat.lt_or_gt_of_ne c with d | d
    · exact fun e => h1 _ a _ d e.symm
    · exact h1 _ b _ d
  have Hne : ∀ i j, i < j → j < i + n → gp_H (P j) ≠ gp_H (P i) := fun i j a b => gp_in_Hne (hin _) (hin _) (ne i j a b)
  have modc : ∀ i j, i < j → j < i + n → (j % n = i % n + (j - i) ∨ j % n + n = i % n + (j - i)) := by
    intro i j a b
    have q1 := Nat.div_add_mod i n
    have q2 := Nat.div_add_mod j n
    have m1 := Nat.mod_lt i (show 0 < n by omega)
    have m2 := Nat.mod_lt j (show 0 < n by omega)
    have hd : j / n = i / n ∨ j / n = i / n + 1 := by
      have l : i / n ≤ j / n := Nat.div_le_div_right (by omega)
      have u : j / n ≤ (i + n) / n := Nat.div_le_div_right (by omega)
      rw [Nat.add_div_right i (by omega)] at u
      omega
    rcases hd with e | e
    · rw [e] at q2; omega
    · rw [e, Nat.mul_add, Nat.mul_one] at q2; omega
  refine ⟨hn, hper, fun i j a b => ?_, fun i j a b => ?_, fun i => ?_⟩
  · rw [gp_Hd]; have := Hne i j a b; omega
  · have mc := modc i j (by omega) (by omega)
    have m1 := Nat.mod_lt i (show 0 < n by omega)
    have m2 := Nat.mod_lt j (show 0 < n by omega)
    have e1 : gp_H (P (i % n)) ≠ gp_H (P (i % n + 1)) := fun e => Hne (i % n) (i % n + 1) (by omega) (by omega) e.symm
    have e2 : gp_H (P (j % n)) ≠ gp_H (P (j % n + 1)) := fun e => Hne (j % n) (j % n + 1) (by omega) (by omega) e.symm
    rw [gp_P_mod hper i, gp_P_mod hper j, gp_P_mod1 hper i, gp_P_mod1 hper j]
    rcases Nat.lt_or_ge (i % n) (j % n) with c | c
    · exact gp_Sep_rev (gp_sep_of e2 e1 (h2 _ m2 _ c (by omega) (by omega)))
    · exact gp_sep_of e1 e2 (h2 _ m1 _ (by omega) (by omega) (by omega))
  · have m1 := Nat.mod_lt (i + 1) (show 0 < n by omega)
    have q := h3 _ m1
    have e0 : P ((i + 1) % n + n - 1) = P i := by
      have : P ((i + 1) % n + n - 1) = P (((i + 1) % n + n - 1) % n) := gp_P_mod hper _
      rw [this, gp_P_mod hper i]
      congr 1
      by_cases c : i % n + 1 = n
      · have : (i + 1) % n = 0 := by rw [Nat.add_mod, Nat.mod_eq_of_lt (show 1 < n by omega), c, Nat.mod_self]
        rw [this, Nat.zero_add, Nat.mod_eq_of_lt (by omega)]
        omega
      · have m := Nat.mod_lt i (show 0 < n by omega)
        have : (i + 1) % n = i % n + 1 := by rw [Nat.add_mod, Nat.mod_eq_of_lt (show 1 < n by omega), Nat.mod_eq_of_lt (by omega)]
        rw [this, show i % n + 1 + n - 1 = i % n + n by omega, Nat.add_mod_right, Nat.mod_mod]
    rw [e0, ← gp_P_mod hper (i + 1), ← gp_P_mod1 hper (i + 1)] at q
    exact gp_nf_of (fun e => Hne i (i + 1) (by omega) (by omega) e.symm) (fun e => Hne (i + 1) (i + 2) (by omega) (by omega) e.symm) q
end
section
/-! crossings as the two programs count them -/
abbrev gp_x1 (a b : Int × Int) : Prop := a.2 ≤ 0 ∧ 0 < b.2 ∧ 0 < gp_x a b
abbrev gp_x2 (a b : Int × Int) : Prop := 0 < a.2 ∧ b.2 ≤ 0 ∧ gp_x a b < 0
theorem gp_cx {a b : Int × Int} (ha : -32 < a.1 ∧ a.1 < 32 ∧ -32 < a.2 ∧ a.2 < 32) (hb : -32 < b.1 ∧ b.1 < 32 ∧ -32 < b.2 ∧ b.2 < 32) :
    gp_c a b = if gp_x1 a b then 1 else if gp_x2 a b then -1 else 0 := by
  have k1 : gp_H a < 0 ∧ 0 < gp_H b ∧ 0 < gp_x a b ↔ gp_x1 a b := by
    unfold gp_x1 gp_H
    constructor
    · rintro ⟨h1, h2, h3⟩
      refine ⟨by omega, ?_, h3⟩
      by_cases c : b.2 = 0
      · unfold gp_x at h3
        rw [c, Int.mul_zero] at h3
        have s := gp_sgn a.2 b.1
        omega
      · omega
    · rintro ⟨h1, h2, h3⟩
      refine ⟨?_, by omega, h3⟩
      by_cases c : a.2 = 0
      · unfold gp_x at h3
        rw [c, Int.zero_mul] at h3
        have s := gp_sgn a.1 b.2
        omega
      · omega
  have k2 : 0 < gp_H a ∧ gp_H b < 0 ∧ gp_x a b < 0 ↔ gp_x2 a b := by
    unfold gp_x2 gp_H
    constructor
    · rintro ⟨h1, h2, h3⟩
      refine ⟨?_, by omega, h3⟩
      by_cases c : a.2 = 0
      · unfold gp_x at h3
        rw [c, Int.zero_mul] at h3
        have s := gp_sgn a.1 b.2
        omega
      · omega
    · rintro ⟨h1, h2, h3⟩
      refine ⟨by omega, ?_, h3⟩
      by_cases c : b.2 = 0
      · unfold gp_x at h3
        rw [c, Int.mul_zero] at h3
        have s := gp_sgn a.2 b.1
        omega
      · omega
  unfold gp_c
  by_cases q1 : gp_x1 a b
  · rw [if_pos q1, if_pos (k1.mpr q1)]
  · rw [if_neg q1, if_neg (fun z => q1 (k1.mp z))]
    by_cases q2 : gp_x2 a b
    · rw [if_pos q2, if_pos (k2.mpr q2)]
    · rw [if_neg q2, if_neg (fun z => q2 (k2.mp z))]
theorem gp_in_d {a b : Int × Int} (ha : gp_in a) (hb : gp_in b) : -32 < (gp_d a b).1 ∧ (gp_d a b).1 < 32 ∧ -32 < (gp_d a b).2 ∧ (gp_d a b).2 < 32 := by
  unfold gp_in at *
  unfold gp_d
  dsimp only
  omega
theorem gp_turn_d (a b m : Int × Int) : gp_turn a b m = gp_x (gp_d a m) (gp_d b m) := by
  unfold gp_turn gp_x gp_d
  dsimp only
  grind
/-- X's winding step -/
def gp_ws (a b m : Int × Int) : Int := (if a.2 ≤ m.2 ∧ m.2 < b.2 ∧ 0 < gp_turn a b m then 1 else 0) - (if m.2 < a.2 ∧ b.2 ≤ m.2 ∧ gp_turn a b m < 0 then 1 else 0)
theorem gp_ws_c {a b m : Int × Int} (ha : gp_in a) (hb : gp_in b) (hm : gp_in m) : gp_ws a b m = gp_c (gp_d a m) (gp_d b m) := by
  rw [gp_cx (gp_in_d ha hm) (gp_in_d hb hm)]
  unfold gp_ws gp_x1 gp_x2
  rw [gp_turn_d]
  have e1 : (gp_d a m).2 = a.2 - m.2 := rfl
  have e2 : (gp_d b m).2 = b.2 - m.2 := rfl
  rw [e1, e2]
  repeat' split
  all_goals omega
/-- Y's toggle -/
abbrev gp_tg (a b m : Int × Int) : Prop := ¬ (m.2 < a.2 ↔ m.2 < b.2) ∧ ¬ (0 < gp_turn a b m ↔ m.2 < a.2)
theorem gp_tg_c {a b m : Int × Int} (ha : gp_in a) (hb : gp_in b) (hm : gp_in m) (hab : a ≠ b) (ho : ¬ gp_os m a b) : gp_tg a b m ↔ gp_c (gp_d a m) (gp_d b m) ≠ 0 := by
  rw [← gp_ws_c ha hb hm]
  unfold gp_tg gp_ws
  have z : gp_turn a b m = 0 → ¬ (m.2 < a.2 ∧ b.2 ≤ m.2) := by
    intro t q
    apply ho
    rw [gp_os_H (gp_in_Hne ha hb hab)]
    refine ⟨t, ?_⟩
    have x := gp_turn_d a b m
    rw [t] at x
    by_cases e : b.2 = m.2
    · have : gp_x (gp_d a m) (gp_d b m) = - ((a.2 - m.2) * (b.1 - m.1)) := by
        unfold gp_x gp_d; dsimp only; rw [e]; grind
      rw [this] at x
      rcases gp_mzero.mp (show (a.2 - m.2) * (b.1 - m.1) = 0 by omega) with w | w
      · omega
      · unfold gp_H; unfold gp_in at *; omega
    · unfold gp_H; unfold gp_in at *; omega
  repeat' split
  all_goals omega
/-- parity of the number of toggles -/
def gp_par2 (T : Nat → Bool) : Nat → Bool
  | 0 => false
  | n + 1 => (gp_par2 T n) != (T n)
theorem gp_par2_sm (T : Nat → Bool) (c : Nat → Int) (n : Nat) (h : ∀ i, i < n → (T i = true ↔ c i ≠ 0) ∧ (c i = 0 ∨ c i = 1 ∨ c i = -1)) : gp_par2 T n = true ↔ gp_sm c n % 2 = 1 := by
  induction n with
  | zero => simp [gp_par2, gp_sm]
  | succ n ih =>
    have i1 := ih (fun i hi => h i (by omega))
    have h1 := h n (by omega)
    rw [gp_sm_s]
    unfold gp_par2
    cases hp : gp_par2 T n <;> cases ht : T n <;> simp [hp, ht] at * <;> omega
theorem gp_c_vals (a b : Int × Int) : gp_c a b = 0 ∨ gp_c a b = 1 ∨ gp_c a b = -1 := by
  unfold gp_c
  repeat' split
  all_goals omega
section
variable {P : Nat → Int × Int} {n : Nat}
/-- on some side, as closed segments -/
theorem gp_onE_os (h : gp_Poly P n) (hin : ∀ i, gp_in (P i)) {m : Int × Int} (hm : gp_in m) : (∃ i, i < n ∧ gp_os m (P i) (P (i + 1))) ↔ gp_onE P n m = 1 := by
  have hn := h.1
  have hv : ∀ j, m = P j ∨ gp_H (gp_d (P j) m) ≠ 0 := fun j => by
    by_cases e : m = P j
    · exact Or.inl e
    · refine Or.inr ?_
      rw [gp_Hd]
      have := gp_in_Hne hm (hin j) e
      omega
  have ne : ∀ i, P i ≠ P (i + 1) := fun i => gp_P_ne h i (i + 1) (by omega) (by omega)
  constructor
  · rintro ⟨i, hi, o⟩
    rcases gp_os_cases hm (hin _) (hin _) (ne i) o with e | e | e
    · exact gp_onE_1 h hv hi (Or.inl e)
    · by_cases c : i + 1 = n
      · exact gp_onE_1 h hv (i := 0) (by omega) (Or.inl (by rw [e, c]; have := h.2.1 0; rw [Nat.zero_add] at this; exact this))
      · exact gp_onE_1 h hv (i := i + 1) (by omega) (Or.inl e)
    · exact gp_onE_1 h hv hi (Or.inr e)
  · intro e
    rcases gp_onE_iff h hv with ⟨_, i, hi, o⟩ | ⟨z, _⟩
    · refine ⟨i, hi, ?_⟩
      rcases o with o | o
      · rw [o]
        refine ⟨?_, by unfold gp_bt; omega, by unfold gp_bt; omega⟩
        unfold gp_turn
        grind
      · exact gp_os_On (gp_in_Hne (hin _) (hin _) (ne i)) o
    · omega
theorem gp_hv (hin : ∀ i, gp_in (P i)) {m : Int × Int} (hm : gp_in m) : ∀ j, m = P j ∨ gp_H (gp_d (P j) m) ≠ 0 := fun j => by
  by_cases e : m = P j
  · exact Or.inl e
  · refine Or.inr ?_
    rw [gp_Hd]
    have := gp_in_Hne hm (hin j) e
    omega
/-- 1 inside, 0 on the edge, -1 outside -/
def gp_pl (P : Nat → Int × Int) (n : Nat) (m : Int × Int) : Int := if gp_onE P n m = 1 then 0 else if gp_w P n m = 0 then -1 else 1
theorem gp_w_odd (h : gp_Poly P n) (hin : ∀ i, gp_in (P i)) {m : Int × Int} (hm : gp_in m) (ho : gp_onE P n m ≠ 1) : gp_w P n m % 2 = 1 ↔ gp_w P n m ≠ 0 := by
  rcases gp_onE_iff h (gp_hv hin hm) with ⟨z, _⟩ | ⟨_, z⟩
  · exact absurd z ho
  · have w := gp_wind h m (gp_off_H h (gp_hv hin hm) z).2
    have g := gp_Ga_01 h
    omega
theorem gp_tg_w (h : gp_Poly P n) (hin : ∀ i, gp_in (P i)) {m : Int × Int} (hm : gp_in m) (ho : gp_onE P n m ≠ 1) (T : Nat → Bool) (hT : ∀ i, i < n → (T i = true ↔ gp_tg (P i) (P (i + 1)) m)) :
    gp_par2 T n = true ↔ gp_w P n m ≠ 0 := by
  have hn := h.1
  rw [← gp_w_odd h hin hm ho]
  unfold gp_w
  refine gp_par2_sm T _ n fun i hi => ⟨?_, gp_c_vals _ _⟩
  rw [hT i hi]
  exact gp_tg_c (hin _) (hin _) hm (gp_P_ne h i (i + 1) (by omega) (by omega)) fun o => ho ((gp_onE_os h hin hm).mp ⟨i, hi, o⟩)
theorem gp_w_ws (hin : ∀ i, gp_in (P i)) {m : Int × Int} (hm : gp_in m) : gp_w P n m = gp_sm (fun i => gp_ws (P i) (P (i + 1)) m) n := by
  unfold gp_w
  exact gp_sm_congr fun i _ => (gp_ws_c (hin _) (hin _) hm).symm
end
end
section
/-! cuts and the sense of going round -/
theorem gp_NFd {p q r : Int × Int} (h1 : ¬ gp_On r p q) (h2 : ¬ gp_On q p r) (hpq : gp_H p ≠ gp_H q) (hpr : gp_H p ≠ gp_H r) (hqr : gp_H q ≠ gp_H r) : gp_NF (gp_d p q) (gp_d r p) := by
  intro z
  have e1 := gp_Hd p q
  have e2 := gp_Hd r p
  by_cases c : 0 < gp_H (gp_d p q) ↔ 0 < gp_H (gp_d r p)
  · exact c
  · exfalso
    have o1 : ¬ ((gp_H p < gp_H r ∧ gp_H r < gp_H q) ∨ (gp_H q < gp_H r ∧ gp_H r < gp_H p)) := fun w => h1 ⟨by
      unfold gp_x gp_d at *; dsimp only at *; grind, w⟩
    have o2 : ¬ ((gp_H p < gp_H q ∧ gp_H q < gp_H r) ∨ (gp_H r < gp_H q ∧ gp_H q < gp_H p)) := fun w => h2 ⟨by
      unfold gp_x gp_d at *; dsimp only at *; grind, w⟩
    omega
theorem gp_NF_k {D : Int} (hD : 0 < D) {a b : Int × Int} (h : gp_NF a b) : gp_NF (gp_k D a) (gp_k D b) := by
  unfold gp_NF at *
  rw [gp_xk, gp_Hk, gp_Hk]
  have s1 := gp_spos (a := gp_x a b) (Int.mul_pos hD hD)
  have s2 := gp_spos (a := gp_H a) hD
  have s3 := gp_spos (a := gp_H b) hD
  intro z
  have := h (by omega)
  omega
theorem gp_NF_k1 {D : Int} (hD : 0 < D) {a b : Int × Int} (h : gp_NF a b) : gp_NF a (gp_k D b) := by
  unfold gp_NF at *
  have e : gp_x a (gp_k D b) = D * gp_x a b := by unfold gp_x gp_k; dsimp only; grind
  rw [e, gp_Hk]
  have s1 := gp_spos (a := gp_x a b) hD
  have s3 := gp_spos (a := gp_H b) hD
  intro z
  have := h (by omega)
  omega
theorem gp_Sep_k {D : Int} (hD : 0 < D) {a b c d : Int × Int} (h : gp_Sep a b c d) : gp_Sep (gp_k D a) (gp_k D b) (gp_k D c) (gp_k D d) := by
  obtain ⟨u, a, b, c, d⟩ := h
  refine ⟨u, ?_, ?_, ?_, ?_⟩
  all_goals
    rw [gp_kd, gp_fk]
    exact Int.mul_pos hD (by assumption)
theorem gp_os_sw {p x y : Int × Int} (h : gp_os p x y) : gp_os p y x := by
  obtain ⟨t, u, v⟩ := h
  refine ⟨?_, by unfold gp_bt at *; omega, by unfold gp_bt at *; omega⟩
  unfold gp_turn at *
  grind
theorem gp_meet_sw {a b c d : Int × Int} (h : gp_meet a b c d) : gp_meet b a c d := by
  rcases h with h | h | h | h | h
  · left
    have e1 : ∀ z : Int × Int, gp_turn b a z = - gp_turn a b z := fun z => by unfold gp_turn; grind
    rw [e1, e1, Int.neg_mul_neg, Int.mul_comm (gp_turn c d b)]
    exact h
  · exact Or.inr (Or.inl (gp_os_sw h))
  · exact Or.inr (Or.inr (Or.inl (gp_os_sw h)))
  · exact Or.inr (Or.inr (Or.inr (Or.inr h)))
  · exact Or.inr (Or.inr (Or.inr (Or.inl h)))
def gp_Clear (P : Nat → Int × Int) (p q : Int × Int) : Prop :=
  (∀ k, P k ≠ p → P k ≠ q → ¬ gp_os (P k) p q) ∧
  (∀ k, P k ≠ p → P k ≠ q → P (k + 1) ≠ p → P (k + 1) ≠ q → ¬ gp_meet p q (P k) (P (k + 1)))
theorem gp_Clear_sw {P : Nat → Int × Int} {p q : Int × Int} (h : gp_Clear P p q) : gp_Clear P q p :=
  ⟨fun k a b z => h.1 k b a (gp_os_sw z), fun k a b c d z => h.2 k b a d c (gp_meet_sw z)⟩
theorem gp_window {P : Nat → Int × Int} {n : Nat} (hn : 0 < n) (hper : ∀ i, P (i + n) = P i) (i k : Nat) : ∃ k', i ≤ k' ∧ k' < i + n ∧ P k' = P k ∧ P (k' + 1) = P (k + 1) := by
  have m := Nat.mod_lt (k + (n - i % n)) hn
  have mi := Nat.mod_lt i hn
  have e : (i + (k + (n - i % n)) % n) % n = k % n := by
    have q := Nat.div_add_mod i n
    have : i + (k + (n - i % n)) = k + n * (i / n + 1) := by rw [Nat.mul_add, Nat.mul_one]; omega
    rw [Nat.add_mod, Nat.mod_mod, ← Nat.add_mod, this, Nat.add_mul_mod_self_left]
  refine ⟨i + (k + (n - i % n)) % n, by omega, by omega, ?_, ?_⟩
  · rw [gp_P_mod hper, e, ← gp_P_mod hper]
  · rw [gp_P_mod1 hper, e, ← gp_P_mod1 hper]
theorem gp_Grid_in2 {P : Nat → Int × Int} (hg : gp_Grid P) (i : Nat) : gp_in (gp_k 2 (P i)) := by
  have := hg i
  unfold gp_in gp_k
  dsimp only
  omega
theorem gp_Grid_in {P : Nat → Int × Int} (hg : gp_Grid P) (i : Nat) : gp_in (P i) := by
  have := hg i
  unfold gp_in
  omega
def gp_mid (p q : Int × Int) : Int × Int := (p.1 + q.1, p.2 + q.2)
section
variable {P : Nat → Int × Int} {n : Nat}
theorem gp_cut_w (h : gp_Poly P n) (hg : gp_Grid P) (i j : Nat) (hj1 : i + 3 ≤ j) (hj2 : j + 1 ≤ i + n) (hc : gp_Clear P (P (i + 1)) (P j)) :
    gp_pl (fun i => gp_k 2 (P i)) n (gp_mid (P (i + 1)) (P j)) = 1 ↔
      gp_opL ((2 * gp_Ga P n - 1) * gp_turn (P i) (P (i + 1)) (P (i + 2))) ((2 * gp_Ga P n - 1) * gp_turn (P (i + 1)) (P (i + 2)) (P j)) ((2 * gp_Ga P n - 1) * gp_turn (P (i + 1)) (P j) (P i)) := by
  have hn := h.1
  have h' := gp_Poly_k h (D := 2) (by omega)
  have iN := gp_Grid_in hg
  have nH : ∀ a b, a < b → b < a + n → gp_H (P a) ≠ gp_H (P b) := fun a b x y e => by
    have := gp_P_H h a b x y; rw [gp_Hd] at this; omega
  have npq := gp_P_ne h (i + 1) j (by omega) (by omega)
  have Hpq := nH (i + 1) j (by omega) (by omega)
  have pin : P (i + n) = P i := h.2.1 i
  have on : gp_On (gp_mid (P (i + 1)) (P j)) (gp_k 2 (P j)) (gp_k 2 (P (i + 1))) := by
    refine ⟨?_, ?_⟩
    · unfold gp_x gp_d gp_k gp_mid; dsimp only; grind
    · rw [gp_Hk, gp_Hk]; unfold gp_mid; unfold gp_H at *; dsimp only; omega
  have neqp : ∀ k, i + 1 < k → k < i + 1 + n → P k ≠ P (i + 1) := fun k a b e => gp_P_ne h (i + 1) k a b e.symm
  have neqq : ∀ k, j < k → k < j + n → P k ≠ P j := fun k a b e => gp_P_ne h j k a b e.symm
  have neqq' : ∀ k, k < j → j < k + n → P k ≠ P j := fun k a b => gp_P_ne h k j a b
  have osn : ∀ k, P k ≠ P (i + 1) → P k ≠ P j → ¬ gp_On (P k) (P (i + 1)) (P j) := fun k a b z => hc.1 k a b (gp_os_On Hpq z)
  have hs : ∀ k, i + 2 ≤ k → k + 1 ≤ i + n → gp_Sep (gp_k 2 (P (i + 1))) (gp_mid (P (i + 1)) (P j)) (gp_k 2 (P k)) (gp_k 2 (P (k + 1))) := by
    intro k k1 k2
    obtain ⟨u, f1, f2⟩ := gp_seenV h (i + 1) k (by omega) (by omega)
    by_cases c1 : k = j
    · subst c1
      have nf := gp_NFd (p := P k) (q := P (k + 1)) (r := P (i + 1)) (gp_notOn f1 f2)
        (fun z => osn (k + 1) (neqp _ (by omega) (by omega)) (neqq _ (by omega) (by omega)) (gp_On_sw z))
        (nH k (k + 1) (by omega) (by omega)) (fun e => nH (i + 1) k (by omega) (by omega) e.symm) (fun e => nH (i + 1) (k + 1) (by omega) (by omega) e.symm)
      have nf2 := gp_NF_k (D := 2) (by omega) nf
      rw [← gp_kd, ← gp_kd] at nf2
      have s := gp_SepAdj nf2 (by rw [gp_Hd, gp_Hk, gp_Hk]; have := nH k (k + 1) (by omega) (by omega); omega) (by rw [gp_Hd, gp_Hk, gp_Hk]; omega) on
      exact gp_Sep_sw2 (gp_Sep_sw s)
    · by_cases c2 : k + 1 = j
      · subst c2
        have nf := gp_NFd (p := P (k + 1)) (q := P k) (r := P (i + 1)) (gp_notOn f2 f1)
          (fun z => osn k (neqp _ (by omega) (by omega)) (neqq' _ (by omega) (by omega)) (gp_On_sw z))
          (fun e => nH k (k + 1) (by omega) (by omega) e.symm) (fun e => Hpq e.symm) (fun e => nH (i + 1) k (by omega) (by omega) e.symm)
        have nf2 := gp_NF_k (D := 2) (by omega) nf
        rw [← gp_kd, ← gp_kd] at nf2
        have s := gp_SepAdj nf2 (by rw [gp_Hd, gp_Hk, gp_Hk]; have := nH k (k + 1) (by omega) (by omega); omega) (by rw [gp_Hd, gp_Hk, gp_Hk]; omega) on
        exact gp_Sep_sw s
      · have q1 : P k ≠ P j := by
          rcases Nat.lt_or_gt_of_ne c1 with c | c
          · exact neqq' k c (by omega)
          · exact neqq k c (by omega)
        have q2 : P (k + 1) ≠ P j := by
          rcases Nat.lt_or_gt_of_ne c2 with c | c
          · exact neqq' (k + 1) c (by omega)
          · exact neqq (k + 1) c (by omega)
        have m := hc.2 k (neqp _ (by omega) (by omega)) q1 (neqp _ (by omega) (by omega)) q2
        have s := gp_Sep_k (D := 2) (by omega) (gp_sep_of Hpq (nH k (k + 1) (by omega) (by omega)) m)
        exact gp_Sep_sw (gp_On_Sep on (gp_Sep_sw s))
  have nfF : gp_NF (gp_d (P (i + 1)) (P j)) (gp_d (P (i + 2)) (P (i + 1))) := by
    refine gp_NFd (osn (i + 2) (neqp _ (by omega) (by omega)) (neqq' _ (by omega) (by omega))) ?_ Hpq (nH _ _ (by omega) (by omega)) (fun e => nH (i + 2) j (by omega) (by omega) e.symm)
    obtain ⟨u, f1, f2⟩ := gp_seenV h j (i + 1 + n) (by omega) (by omega)
    rw [show i + 1 + n + 1 = i + 2 + n by omega, h.2.1] at f2
    rw [h.2.1] at f1
    exact gp_notOn f1 f2
  have nfE : gp_NF (gp_d (P (i + 1)) (P j)) (gp_d (P i) (P (i + 1))) := by
    refine gp_NFd (osn i (fun e => gp_P_ne h i (i + 1) (by omega) (by omega) e) (neqq' _ (by omega) (by omega))) ?_ Hpq (fun e => nH i (i + 1) (by omega) (by omega) e.symm) (fun e => nH i j (by omega) (by omega) e.symm)
    obtain ⟨u, f1, f2⟩ := gp_seenV h j (i + n) (by omega) (by omega)
    rw [show i + n + 1 = i + 1 + n by omega, h.2.1] at f2
    rw [h.2.1] at f1
    exact gp_notOn f2 f1
  have nd : gp_d (gp_k 2 (P (i + 1))) (gp_mid (P (i + 1)) (P j)) = gp_d (P (i + 1)) (P j) := by
    unfold gp_d gp_k gp_mid; dsimp only; exact Prod.ext (by dsimp only; omega) (by dsimp only; omega)
  have eF : gp_e (fun i => gp_k 2 (P i)) (i + 1) = gp_k 2 (gp_d (P (i + 2)) (P (i + 1))) := by unfold gp_e; dsimp only; rw [gp_kd]
  have eE : gp_e (fun i => gp_k 2 (P i)) i = gp_k 2 (gp_d (P (i + 1)) (P i)) := by unfold gp_e; dsimp only; rw [gp_kd]
  have eE' : gp_d (gp_k 2 (P i)) (gp_k 2 (P (i + 1))) = gp_k 2 (gp_d (P i) (P (i + 1))) := gp_kd _ _ _
  have mne : ∀ k, gp_mid (P (i + 1)) (P j) ≠ gp_k 2 (P k) := by
    intro k e
    have a1 : (P (i + 1)).1 + (P j).1 = 2 * (P k).1 := congrArg Prod.fst e
    have a2 : (P (i + 1)).2 + (P j).2 = 2 * (P k).2 := congrArg Prod.snd e
    have k1 : P k ≠ P (i + 1) := fun w => npq (by rw [w] at a1 a2; exact Prod.ext (by omega) (by omega))
    have k2 : P k ≠ P j := fun w => npq (by rw [w] at a1 a2; exact Prod.ext (by omega) (by omega))
    refine hc.1 k k1 k2 ⟨?_, by unfold gp_bt; omega, by unfold gp_bt; omega⟩
    unfold gp_turn
    have z1 : (P j).1 = 2 * (P k).1 - (P (i + 1)).1 := by omega
    have z2 : (P j).2 = 2 * (P k).2 - (P (i + 1)).2 := by omega
    rw [z1, z2]
    grind
  have mi : gp_in (gp_mid (P (i + 1)) (P j)) := by
    have a := hg (i + 1)
    have b := hg j
    unfold gp_in gp_mid
    dsimp only
    omega
  have hH : ∀ k, gp_H (gp_d ((fun i => gp_k 2 (P i)) k) (gp_mid (P (i + 1)) (P j))) ≠ 0 := fun k => by
    have := gp_in_Hne mi (gp_Grid_in2 hg k) (mne k)
    rw [gp_Hd]
    dsimp only
    omega
  have nf1 : gp_NF (gp_d (gp_k 2 (P (i + 1))) (gp_mid (P (i + 1)) (P j))) (gp_e (fun i => gp_k 2 (P i)) (i + 1)) := by
    rw [nd, eF]; exact gp_NF_k1 (by omega) nfF
  have nf2 : gp_NF (gp_d (gp_k 2 (P (i + 1))) (gp_mid (P (i + 1)) (P j))) (gp_d (gp_k 2 (P i)) (gp_k 2 (P (i + 1)))) := by
    rw [nd, eE']; exact gp_NF_k1 (by omega) nfE
  have cw := gp_cutw h' i (gp_mid (P (i + 1)) (P j)) hH hs nf1 nf2
  have HnE : gp_H (gp_d (gp_k 2 (P i)) (gp_k 2 (P (i + 1)))) ≠ 0 := gp_H_rev (gp_P_e h' i)
  have off : gp_onE (fun i => gp_k 2 (P i)) n (gp_mid (P (i + 1)) (P j)) ≠ 1 := by
    intro o
    rcases gp_onE_iff h' (gp_hv (gp_Grid_in2 hg) mi) with ⟨_, k, hk, w⟩ | ⟨z, _⟩
    · rcases w with w | w
      · exact mne k w
      · obtain ⟨k', a1, a2, a3, a4⟩ := gp_window (P := fun i => gp_k 2 (P i)) (n := n) (by omega) h'.2.1 (i + 1) k
        dsimp only at a3 a4 w
        rw [← a3, ← a4] at w
        by_cases c1 : k' = i + 1
        · subst c1
          obtain ⟨u, f1, f2⟩ := gp_tri_f (s := gp_d (gp_k 2 (P (i + 1 + 1))) (gp_mid (P (i + 1)) (P j))) (by unfold gp_e gp_d gp_k; dsimp only; exact Prod.ext (by dsimp only; omega) (by dsimp only; omega)) nf1 (hH _) (gp_P_e h' (i + 1))
          exact gp_notOn f1 f2 w
        · by_cases c2 : k' = i + n
          · subst c2
            obtain ⟨u, f1, f2⟩ := gp_tri_f (s := gp_d (gp_k 2 (P i)) (gp_mid (P (i + 1)) (P j))) (by unfold gp_d gp_k; dsimp only; exact Prod.ext (by dsimp only; omega) (by dsimp only; omega)) nf2 (hH _) HnE
            rw [show i + n + 1 = i + 1 + n by omega, h.2.1, h.2.1] at w
            exact gp_notOn f2 f1 w
          · obtain ⟨u, _, f1, _, f2⟩ := hs k' (by omega) (by omega)
            exact gp_notOn f1 f2 w
    · omega
  have pl : gp_pl (fun i => gp_k 2 (P i)) n (gp_mid (P (i + 1)) (P j)) = 1 ↔ gp_w (fun i => gp_k 2 (P i)) n (gp_mid (P (i + 1)) (P j)) ≠ 0 := by
    unfold gp_pl
    rw [if_neg off]
    split <;> omega
  rw [pl, cw, gp_Ga_k (by omega)]
  have E0 := gp_P_e h' i
  have F0 := gp_P_e h' (i + 1)
  have d0 := hH (i + 1)
  have nf0 := gp_P_nf h' i
  dsimp only at d0
  have x1 : gp_H (gp_d (gp_k 2 (P i)) (gp_k 2 (P (i + 1)))) = - gp_H (gp_e (fun i => gp_k 2 (P i)) i) := by
    unfold gp_e; dsimp only; rw [gp_Hd, gp_Hd]; omega
  have L := gp_loc (HE := gp_H (gp_e (fun i => gp_k 2 (P i)) i)) (HF := gp_H (gp_e (fun i => gp_k 2 (P i)) (i + 1))) (Hd := - gp_H (gp_d (gp_k 2 (P (i + 1))) (gp_mid (P (i + 1)) (P j))))
    (b := gp_x (gp_e (fun i => gp_k 2 (P i)) i) (gp_e (fun i => gp_k 2 (P i)) (i + 1)))
    (tN := gp_x (gp_d (gp_k 2 (P (i + 1))) (gp_mid (P (i + 1)) (P j))) (gp_e (fun i => gp_k 2 (P i)) (i + 1)))
    (tL := - gp_x (gp_d (gp_k 2 (P (i + 1))) (gp_mid (P (i + 1)) (P j))) (gp_d (gp_k 2 (P i)) (gp_k 2 (P (i + 1)))))
    (by
      rw [nd, eF, eE, eE']
      unfold gp_H gp_x gp_k gp_d
      dsimp only
      grind)
    E0 F0 (by omega) nf0
    (fun z => by have := nf1 z; omega)
    (fun z => by have := nf2 (by omega); omega)
  rw [Int.neg_neg, Int.neg_neg, ← x1] at L
  have b1 : gp_x (gp_e (fun i => gp_k 2 (P i)) i) (gp_e (fun i => gp_k 2 (P i)) (i + 1)) = 4 * gp_turn (P i) (P (i + 1)) (P (i + 2)) := by
    rw [eE, eF]; unfold gp_x gp_k gp_d gp_turn; dsimp only; grind
  have b2 : gp_x (gp_d (gp_k 2 (P (i + 1))) (gp_mid (P (i + 1)) (P j))) (gp_e (fun i => gp_k 2 (P i)) (i + 1)) = 2 * gp_turn (P (i + 1)) (P (i + 2)) (P j) := by
    rw [nd, eF]; unfold gp_x gp_k gp_d gp_turn; dsimp only; grind
  have b3 : - gp_x (gp_d (gp_k 2 (P (i + 1))) (gp_mid (P (i + 1)) (P j))) (gp_d (gp_k 2 (P i)) (gp_k 2 (P (i + 1)))) = 2 * gp_turn (P (i + 1)) (P j) (P i) := by
    rw [nd, eE']; unfold gp_x gp_k gp_d gp_turn; dsimp only; grind
  have b4 : gp_x (gp_d (gp_k 2 (P (i + 1))) (gp_mid (P (i + 1)) (P j))) (gp_d (gp_k 2 (P i)) (gp_k 2 (P (i + 1)))) = - (2 * gp_turn (P (i + 1)) (P j) (P i)) := by omega
  have cc : ∀ a b : Int × Int, gp_c a b = gp_cc (gp_H a) (gp_H b) (gp_x a b) := fun a b => rfl
  have gg : gp_g (gp_e (fun i => gp_k 2 (P i)) i) = if 0 < gp_H (gp_e (fun i => gp_k 2 (P i)) i) then 1 else 0 := rfl
  rw [← cc, ← cc, ← cc, ← gg, b1, b2, b3, b4] at L
  generalize gp_c (gp_e (fun i => gp_k 2 (P i)) i) (gp_e (fun i => gp_k 2 (P i)) (i + 1)) = C1 at *
  generalize gp_g (gp_e (fun i => gp_k 2 (P i)) i) = C2 at *
  generalize gp_c (gp_d (gp_k 2 (P (i + 1))) (gp_mid (P (i + 1)) (P j))) (gp_e (fun i => gp_k 2 (P i)) (i + 1)) = C3 at *
  generalize gp_c (gp_d (gp_k 2 (P (i + 1))) (gp_mid (P (i + 1)) (P j))) (gp_d (gp_k 2 (P i)) (gp_k 2 (P (i + 1)))) = C4 at *
  generalize gp_turn (P i) (P (i + 1)) (P (i + 2)) = T1 at *
  generalize gp_turn (P (i + 1)) (P (i + 2)) (P j) = T2 at *
  generalize gp_turn (P (i + 1)) (P j) (P i) = T3 at *
  have g01 := gp_Ga_01 h
  clear cw pl off b1 b2 b3 b4 nf1 nf2 hs hH mne on osn
  rcases g01 with g | g
  · rw [g]
    unfold gp_opL at *
    omega
  · rw [g]
    unfold gp_opL at *
    omega
/-- the sense of going round, at the lowest corner farthest left -/
theorem gp_left (h : gp_Poly P n) (i : Nat) (hl : ∀ k, i + 1 < k → k < i + 1 + n → 0 < gp_f (1, 64) (gp_d (P k) (P (i + 1)))) :
    gp_Ga P n = 1 ↔ 0 < gp_turn (P i) (P (i + 1)) (P (i + 2)) := by
  have hn := h.1
  have pin : P (i + n) = P i := h.2.1 i
  have F : gp_Phi P n (i + 1) = gp_g (gp_d (P i) (P (i + 1))) - gp_g (gp_e P (i + 1)) := by
    unfold gp_Phi
    have : gp_sm (fun k => gp_c (gp_d (P (i + 1 + 1 + k)) (P (i + 1))) (gp_d (P (i + 1 + 1 + k + 1)) (P (i + 1)))) (n - 2) = gp_sm (fun k => gp_g (gp_d (P (i + 2 + (k + 1))) (P (i + 1))) - gp_g (gp_d (P (i + 2 + k)) (P (i + 1)))) (n - 2) := by
      refine gp_sm_congr fun k hk => ?_
      have a := gp_half (hl (i + 1 + 1 + k) (by omega) (by omega)) (hl (i + 1 + 1 + k + 1) (by omega) (by omega)) (gp_P_H h (i + 1) _ (by omega) (by omega)) (gp_P_H h (i + 1) _ (by omega) (by omega))
      rw [a, if_pos (by decide)]
      rfl
    rw [this, gp_sm_tel (fun k => gp_g (gp_d (P (i + 2 + k)) (P (i + 1))))]
    rw [show i + 2 + (n - 2) = i + n by omega, pin]
    rfl
  have G := gp_Gai_const h i
  unfold gp_Gai at G
  have fa := hl (i + n) (by omega) (by omega)
  rw [pin] at fa
  have fb := hl (i + 2) (by omega) (by omega)
  have id : gp_f (1, 64) (gp_d (P i) (P (i + 1))) * gp_H (gp_d (P (i + 2)) (P (i + 1))) - gp_f (1, 64) (gp_d (P (i + 2)) (P (i + 1))) * gp_H (gp_d (P i) (P (i + 1))) = - 128 * gp_turn (P i) (P (i + 1)) (P (i + 2)) := by
    unfold gp_f gp_H gp_d gp_turn; dsimp only; grind
  have t : gp_turn (P i) (P (i + 1)) (P (i + 2)) = gp_x (gp_e P i) (gp_e P (i + 1)) := by
    unfold gp_turn gp_x gp_e gp_d; dsimp only; grind
  have e0 := gp_P_e h i
  have e1 := gp_P_e h (i + 1)
  have er : gp_H (gp_d (P i) (P (i + 1))) = - gp_H (gp_e P i) := by unfold gp_e; rw [gp_Hd, gp_Hd]; omega
  have nf := gp_P_nf h i
  unfold gp_NF at nf
  have e2 : gp_d (P (i + 2)) (P (i + 1)) = gp_e P (i + 1) := rfl
  rw [e2, er] at id
  rw [e2] at fb
  rw [t] at id ⊢
  have s1 := gp_spos (a := gp_H (gp_e P (i + 1))) fa
  have s2 := gp_spos (a := - gp_H (gp_e P i)) fb
  rw [F] at G
  rw [← G]
  unfold gp_g gp_c
  rw [er]
  generalize gp_f (1, 64) (gp_d (P i) (P (i + 1))) * gp_H (gp_e P (i + 1)) = A at *
  generalize gp_f (1, 64) (gp_e P (i + 1)) * - gp_H (gp_e P i) = B at *
  clear G F fa fb t
  repeat' split
  all_goals omega
theorem gp_gs_nn {f : Nat → Nat → Int} (h : ∀ x y, x < 16 → y < 16 → 0 ≤ f x y) : 0 ≤ gp_gs f :=
  gp_sm_nn fun y hy => gp_sm_nn fun x hx => h x y hx hy
theorem gp_cB_ge (h : gp_Poly P n) (hg : gp_Grid P) : 3 ≤ gp_cB P n := by
  rw [gp_edges h hg]
  have hn := h.1
  have : gp_sm (fun _ => (1 : Int)) n ≤ gp_sm (fun i => (Nat.gcd ((P (i + 1)).1 - (P i).1).natAbs ((P (i + 1)).2 - (P i).2).natAbs : Int)) n := by
    have q := gp_sm_nn (f := fun i => (Nat.gcd ((P (i + 1)).1 - (P i).1).natAbs ((P (i + 1)).2 - (P i).2).natAbs : Int) - 1) (n := n) (fun i hi => by
      have ne := gp_P_ne h i (i + 1) (by omega) (by omega)
      have g0 : Nat.gcd ((P (i + 1)).1 - (P i).1).natAbs ((P (i + 1)).2 - (P i).2).natAbs ≠ 0 := fun z => by
        rw [Nat.gcd_eq_zero_iff] at z
        exact ne (Prod.ext (by omega) (by omega))
      (try dsimp only)
      omega)
    rw [gp_sm_sub (fun i => (Nat.gcd ((P (i + 1)).1 - (P i).1).natAbs ((P (i + 1)).2 - (P i).2).natAbs : Int)) (fun _ => 1)] at q
    omega
  rw [gp_sm_const] at this
  omega
theorem gp_cI_nn : 0 ≤ gp_cI P n := gp_gs_nn fun x y _ _ => by unfold gp_inE; split <;> omega
/-- the area, its sign -/
theorem gp_area (h : gp_Poly P n) (hg : gp_Grid P) : (gp_Ga P n = 1 ∧ 0 < gp_sA P n ∧ gp_sA P n = 2 * gp_cI P n + gp_cB P n - 2) ∨ (gp_Ga P n = 0 ∧ gp_sA P n < 0 ∧ - gp_sA P n = 2 * gp_cI P n + gp_cB P n - 2) := by
  have p := gp_pick h hg
  have b := gp_cB_ge h hg
  have i := gp_cI_nn (P := P) (n := n)
  rcases gp_Ga_01 h with g | g
  · right
    rw [g] at p
    omega
  · left
    rw [g] at p
    omega
end
end
section
/-! sets of cuts that don't cross, and tilings -/
def gp_ln (B : Nat → Nat → Bool) (i j : Nat) : Bool := decide (j = i + 1) || B i j
def gp_bd (k p q : Nat) (a b : Nat → Nat → Bool) : Nat → Nat → Bool := fun i j => a i j || b i j || decide (i = p ∧ j = k ∧ i + 2 ≤ j) || decide (i = k ∧ j = q ∧ i + 2 ≤ j)
def gp_Tr (B : Nat → Nat → Bool) : Nat → Nat → Nat → List (Nat → Nat → Bool)
  | 0, _, _ => []
  | f + 1, p, q => if q = p + 1 then [fun _ _ => false] else (List.range (q - p - 1)).flatMap fun t =>
      if gp_ln B p (p + 1 + t) = true ∧ gp_ln B (p + 1 + t) q = true then (gp_Tr B f p (p + 1 + t)).flatMap fun a => (gp_Tr B f (p + 1 + t) q).map fun b => gp_bd (p + 1 + t) p q a b else []
theorem gp_Tr_fuel (B : Nat → Nat → Bool) : ∀ f g p q, p < q → q ≤ p + f → q ≤ p + g → gp_Tr B f p q = gp_Tr B g p q := by
  intro f
  induction f with
  | zero => intro g p q h1 h2; omega
  | succ f ih =>
    intro g p q h1 h2 h3
    cases g with
    | zero => omega
    | succ g =>
      unfold gp_Tr
      by_cases e : q = p + 1
      · rw [if_pos e, if_pos e]
      · rw [if_neg e, if_neg e]
        show List.flatten (List.map _ _) = List.flatten (List.map _ _)
        refine congrArg List.flatten (List.map_congr_left fun t ht => ?_)
        have ht := List.mem_range.mp ht
        rw [ih g p (p + 1 + t) (by omega) (by omega) (by omega), ih g (p + 1 + t) q (by omega) (by omega) (by omega)]
theorem gp_Tr_mem {B : Nat → Nat → Bool} {f p q : Nat} {x : Nat → Nat → Bool} : x ∈ gp_Tr B (f + 1) p q ↔ (q = p + 1 ∧ x = fun _ _ => false) ∨ (q ≠ p + 1 ∧ ∃ k, p < k ∧ k < q ∧ gp_ln B p k = true ∧ gp_ln B k q = true ∧ ∃ a, a ∈ gp_Tr B f p k ∧ ∃ b, b ∈ gp_Tr B f k q ∧ x = gp_bd k p q a b) := by
  rw [gp_Tr]
  by_cases e : q = p + 1
  · rw [if_pos e, List.mem_singleton]
    constructor
    · exact fun h => Or.inl ⟨e, h⟩
    · rintro (h | h)
      · exact h.2
      · exact absurd e h.1
  · rw [if_neg e, List.mem_flatMap]
    constructor
    · rintro ⟨t, ht, h⟩
      have ht := List.mem_range.mp ht
      by_cases c : gp_ln B p (p + 1 + t) = true ∧ gp_ln B (p + 1 + t) q = true
      · rw [if_pos c, List.mem_flatMap] at h
        obtain ⟨a, ha, h⟩ := h
        rw [List.mem_map] at h
        obtain ⟨b, hb, h⟩ := h
        exact Or.inr ⟨e, p + 1 + t, by omega, by omega, c.1, c.2, a, ha, b, hb, h.symm⟩
      · rw [if_neg c] at h
        exact absurd h List.not_mem_nil
    · rintro (h | ⟨_, k, h1, h2, c1, c2, a, ha, b, hb, h⟩)
      · exact absurd h.1 e
      · obtain ⟨t, rfl⟩ : ∃ t, k = p + 1 + t := ⟨k - p - 1, by omega⟩
        refine ⟨t, List.mem_range.mpr (by omega), ?_⟩
        rw [if_pos ⟨c1, c2⟩, List.mem_flatMap]
        exact ⟨a, ha, List.mem_map.mpr ⟨b, hb, h.symm⟩⟩
def gp_V (p q : Nat) (x : Nat → Nat → Bool) : Prop := (∀ a b, x a b = true → p ≤ a ∧ a + 2 ≤ b ∧ b ≤ q ∧ ¬ (a = p ∧ b = q)) ∧ (∀ a b c d, x a b = true → x c d = true → ¬ (a < c ∧ c < b ∧ b < d))
def gp_C (x : Nat → Nat → Bool) : Int := gp_sm (fun a => gp_sm (fun b => if x a b = true then 1 else 0) 10) 10
def gp_rs (p k : Nat) (x : Nat → Nat → Bool) : Nat → Nat → Bool := fun a b => x a b && decide (p ≤ a ∧ b ≤ k ∧ ¬ (a = p ∧ b = k))
def gp_i1 (c : Prop) (d : Decidable c) : Int := if c then 1 else 0
theorem gp_C_pt (p k : Nat) (hp : p < 10) (hk : k < 10) (c : Prop) [Decidable c] : gp_sm (fun a => gp_sm (fun b => if (c ∧ a = p ∧ b = k) then (1 : Int) else 0) 10) 10 = if c then 1 else 0 := by
  rw [gp_sm_one hp (fun a _ ne => gp_sm_zero fun b _ => if_neg (fun z => ne z.2.1)), gp_sm_one hk (fun b _ ne => if_neg (fun z => ne z.2.2))]
  by_cases h : c
  · rw [if_pos h, if_pos ⟨h, rfl, rfl⟩]
  · rw [if_neg h, if_neg (fun z => h z.1)]
theorem gp_C_4 {x a b : Nat → Nat → Bool} {p k q : Nat} (hp : p < 10) (hk : k < 10) (hq : q < 10) (c d : Prop) [Decidable c] [Decidable d]
    (h : ∀ i j, (if x i j = true then (1 : Int) else 0) = (if a i j = true then (1 : Int) else 0) + (if b i j = true then (1 : Int) else 0) + (if (c ∧ i = p ∧ j = k) then (1 : Int) else 0) + (if (d ∧ i = k ∧ j = q) then (1 : Int) else 0)) :
    gp_C x = gp_C a + gp_C b + (if c then 1 else 0) + (if d then 1 else 0) := by
  rw [← gp_C_pt p k hp hk c, ← gp_C_pt k q hk hq d]
  unfold gp_C
  rw [← gp_sm_add, ← gp_sm_add, ← gp_sm_add]
  refine gp_sm_congr fun i _ => ?_
  rw [← gp_sm_add, ← gp_sm_add, ← gp_sm_add]
  exact gp_sm_congr fun j _ => h i j
theorem gp_bd_mem {k p q : Nat} {a b : Nat → Nat → Bool} {i j : Nat} : gp_bd k p q a b i j = true ↔ a i j = true ∨ b i j = true ∨ (i = p ∧ j = k ∧ i + 2 ≤ j) ∨ (i = k ∧ j = q ∧ i + 2 ≤ j) := by
  unfold gp_bd
  rw [Bool.or_eq_true, Bool.or_eq_true, Bool.or_eq_true, decide_eq_true_iff, decide_eq_true_iff]
  constructor
  · rintro (((h | h) | h) | h)
    · exact Or.inl h
    · exact Or.inr (Or.inl h)
    · exact Or.inr (Or.inr (Or.inl h))
    · exact Or.inr (Or.inr (Or.inr h))
  · rintro (h | h | h | h)
    · exact Or.inl (Or.inl (Or.inl h))
    · exact Or.inl (Or.inl (Or.inr h))
    · exact Or.inl (Or.inr h)
    · exact Or.inr h
theorem gp_rs_mem {p k : Nat} {x : Nat → Nat → Bool} {i j : Nat} : gp_rs p k x i j = true ↔ x i j = true ∧ p ≤ i ∧ j ≤ k ∧ ¬ (i = p ∧ j = k) := by
  unfold gp_rs
  rw [Bool.and_eq_true, decide_eq_true_iff]
theorem gp_if_iff {P Q : Prop} [Decidable P] [Decidable Q] (h : P ↔ Q) : (if P then (1 : Int) else 0) = if Q then 1 else 0 := by
  by_cases c : P
  · rw [if_pos c, if_pos (h.mp c)]
  · rw [if_neg c, if_neg (fun z => c (h.mpr z))]
theorem gp_bd_V {k p q : Nat} {a b : Nat → Nat → Bool} (h1 : p < k) (h2 : k < q) (ha : gp_V p k a) (hb : gp_V k q b) : gp_V p q (gp_bd k p q a b) := by
  refine ⟨fun i j h => ?_, fun i j c d h h' z => ?_⟩
  · rw [gp_bd_mem] at h
    rcases h with h | h | h | h
    · have := ha.1 i j h; omega
    · have := hb.1 i j h; omega
    · omega
    · omega
  · rw [gp_bd_mem] at h h'
    rcases h with h | h | h | h <;> rcases h' with h' | h' | h' | h'
    · exact ha.2 i j c d h h' z
    · have := ha.1 i j h; have := hb.1 c d h'; omega
    · have := ha.1 i j h; omega
    · have := ha.1 i j h; omega
    · have := hb.1 i j h; have := ha.1 c d h'; omega
    · exact hb.2 i j c d h h' z
    · have := hb.1 i j h; omega
    · have := hb.1 i j h; omega
    · have := ha.1 c d h'; omega
    · have := hb.1 c d h'; omega
    · omega
    · omega
    · have := ha.1 c d h'; omega
    · have := hb.1 c d h'; omega
    · omega
    · omega
theorem gp_bd_C {k p q : Nat} {a b : Nat → Nat → Bool} (h1 : p < k) (h2 : k < q) (hq : q < 10) (ha : gp_V p k a) (hb : gp_V k q b) :
    gp_C (gp_bd k p q a b) = gp_C a + gp_C b + (if p + 2 ≤ k then 1 else 0) + (if k + 2 ≤ q then 1 else 0) := by
  refine gp_C_4 (p := p) (k := k) (q := q) (by omega) (by omega) (by omega) _ _ fun i j => ?_
  have m := gp_bd_mem (k := k) (p := p) (q := q) (a := a) (b := b) (i := i) (j := j)
  have va := ha.1 i j
  have vb := hb.1 i j
  by_cases ca : a i j = true
  · have va := va ca
    rw [if_pos (m.mpr (Or.inl ca)), if_pos ca, if_neg (fun z => by have := vb z; omega), if_neg (by omega), if_neg (by omega)]; rfl
  · by_cases cb : b i j = true
    · have vb := vb cb
      rw [if_pos (m.mpr (Or.inr (Or.inl cb))), if_neg ca, if_pos cb, if_neg (by omega), if_neg (by omega)]; rfl
    · rw [if_neg ca, if_neg cb]
      by_cases c1 : p + 2 ≤ k ∧ i = p ∧ j = k
      · rw [if_pos (m.mpr (Or.inr (Or.inr (Or.inl (by omega))))), if_pos c1, if_neg (by omega)]; rfl
      · rw [if_neg c1]
        by_cases c2 : k + 2 ≤ q ∧ i = k ∧ j = q
        · rw [if_pos (m.mpr (Or.inr (Or.inr (Or.inr (by omega))))), if_pos c2]; rfl
        · rw [if_neg c2, if_neg (fun z => by
            rcases m.mp z with h | h | h | h
            · exact ca h
            · exact cb h
            · omega
            · omega)]; rfl
theorem gp_rs_bd {k p q : Nat} {a b : Nat → Nat → Bool} (h1 : p < k) (h2 : k < q) (ha : gp_V p k a) (hb : gp_V k q b) :
    gp_rs p k (gp_bd k p q a b) = a ∧ gp_rs k q (gp_bd k p q a b) = b := by
  constructor
  · funext i j
    rw [Bool.eq_iff_iff, gp_rs_mem, gp_bd_mem]
    constructor
    · rintro ⟨h | h | h | h, z⟩
      · exact h
      · have := hb.1 i j h; omega
      · omega
      · omega
    · intro h
      have := ha.1 i j h
      exact ⟨Or.inl h, by omega⟩
  · funext i j
    rw [Bool.eq_iff_iff, gp_rs_mem, gp_bd_mem]
    constructor
    · rintro ⟨h | h | h | h, z⟩
      · have := ha.1 i j h; omega
      · exact h
      · omega
      · omega
    · intro h
      have := hb.1 i j h
      exact ⟨Or.inr (Or.inl h), by omega⟩
theorem gp_rs_V {k p q : Nat} {x : Nat → Nat → Bool} (h1 : p < k) (h2 : k < q) (hx : gp_V p q x) : gp_V p k (gp_rs p k x) ∧ gp_V k q (gp_rs k q x) := by
  refine ⟨⟨fun a b h => ?_, fun a b c d h h' => ?_⟩, ⟨fun a b h => ?_, fun a b c d h h' => ?_⟩⟩
  · rw [gp_rs_mem] at h
    have := hx.1 a b h.1
    omega
  · rw [gp_rs_mem] at h h'
    exact hx.2 a b c d h.1 h'.1
  · rw [gp_rs_mem] at h
    have := hx.1 a b h.1
    omega
  · rw [gp_rs_mem] at h h'
    exact hx.2 a b c d h.1 h'.1
theorem gp_split {k p q : Nat} {x : Nat → Nat → Bool} (h1 : p < k) (h2 : k < q) (hq : q < 10) (hx : gp_V p q x) (hs : ∀ a b, x a b = true → b ≤ k ∨ k ≤ a) :
    gp_C x = gp_C (gp_rs p k x) + gp_C (gp_rs k q x) + (if x p k = true then 1 else 0) + (if x k q = true then 1 else 0) := by
  refine gp_C_4 (p := p) (k := k) (q := q) (by omega) (by omega) (by omega) _ _ fun i j => ?_
  have m1 := gp_rs_mem (p := p) (k := k) (x := x) (i := i) (j := j)
  have m2 := gp_rs_mem (p := k) (k := q) (x := x) (i := i) (j := j)
  by_cases c : x i j = true
  · have v := hx.1 i j c
    have s := hs i j c
    rw [if_pos c]
    by_cases e1 : i = p ∧ j = k
    · rw [if_neg (fun z => (m1.mp z).2.2.2 e1), if_neg (fun z => by have := m2.mp z; omega), if_pos ⟨by rw [← e1.1, ← e1.2]; exact c, e1⟩, if_neg (by omega)]; rfl
    · by_cases e2 : i = k ∧ j = q
      · rw [if_neg (fun z => by have := m1.mp z; omega), if_neg (fun z => (m2.mp z).2.2.2 e2), if_neg (by omega), if_pos ⟨by rw [← e2.1, ← e2.2]; exact c, e2⟩]; rfl
      · rw [if_neg (show ¬ (x p k = true ∧ i = p ∧ j = k) from fun z => e1 z.2), if_neg (show ¬ (x k q = true ∧ i = k ∧ j = q) from fun z => e2 z.2)]
        rcases s with s | s
        · rw [if_pos (m1.mpr ⟨c, by omega⟩), if_neg (fun z => by have := m2.mp z; omega)]; rfl
        · rw [if_neg (fun z => by have := m1.mp z; omega), if_pos (m2.mpr ⟨c, by omega⟩)]; rfl
  · rw [if_neg c, if_neg (fun z => c (m1.mp z).1), if_neg (fun z => c (m2.mp z).1), if_neg (show ¬ (x p k = true ∧ i = p ∧ j = k) from fun z => c (by rw [z.2.1, z.2.2]; exact z.1)), if_neg (show ¬ (x k q = true ∧ i = k ∧ j = q) from fun z => c (by rw [z.2.1, z.2.2]; exact z.1))]; rfl
theorem gp_maxk (Q : Nat → Prop) (q : Nat) : ∀ d k0, q ≤ k0 + d → Q k0 → k0 < q → ∃ k, Q k ∧ k0 ≤ k ∧ k < q ∧ ∀ k', k < k' → k' < q → ¬ Q k' := by
  intro d
  induction d with
  | zero => intro k0 h _ h2; omega
  | succ d ih =>
    intro k0 h h1 h2
    by_cases c : ∃ k', k0 < k' ∧ k' < q ∧ Q k'
    · obtain ⟨k', a, b, e⟩ := c
      obtain ⟨k, x, y, z, w⟩ := ih k' (by omega) e b
      exact ⟨k, x, by omega, z, w⟩
    · exact ⟨k0, h1, by omega, h2, fun k' a b e => c ⟨k', a, b, e⟩⟩
theorem gp_apex {p q : Nat} {x : Nat → Nat → Bool} (h : p + 2 ≤ q) (hx : gp_V p q x) : ∃ k, p < k ∧ k < q ∧ (k = p + 1 ∨ x p k = true) ∧ ∀ a b, x a b = true → b ≤ k ∨ k ≤ a := by
  obtain ⟨k, h1, h2, h3, h4⟩ := gp_maxk (fun k => k = p + 1 ∨ x p k = true) q q (p + 1) (by omega) (Or.inl rfl) (by omega)
  refine ⟨k, by omega, h3, h1, fun a b c => ?_⟩
  have v := hx.1 a b c
  by_cases z : b ≤ k ∨ k ≤ a
  · exact z
  · exfalso
    by_cases e : a = p
    · subst e
      exact h4 b (by omega) (by omega) (Or.inr c)
    · rcases h1 with h1 | h1
      · omega
      · exact hx.2 p k a b h1 c (by omega)
theorem gp_C_0 {p k : Nat} {x : Nat → Nat → Bool} (hx : gp_V p k x) (h : k ≤ p + 1) : gp_C x = 0 := by
  refine gp_sm_zero fun a _ => gp_sm_zero fun b _ => if_neg fun z => ?_
  have := hx.1 a b z
  omega
theorem gp_bound : ∀ d p q (x : Nat → Nat → Bool), q ≤ p + d → p + 2 ≤ q → q < 10 → gp_V p q x → gp_C x + 2 ≤ (q : Int) - p := by
  intro d
  induction d with
  | zero => intro p q x h1 h2; omega
  | succ d ih =>
    intro p q x h1 h2 h3 hx
    obtain ⟨k, a1, a2, a3, a4⟩ := gp_apex h2 hx
    obtain ⟨v1, v2⟩ := gp_rs_V a1 a2 hx
    rw [gp_split a1 a2 h3 hx a4]
    have e1 : gp_C (gp_rs p k x) + (if x p k = true then 1 else 0) ≤ (k : Int) - p - 1 := by
      by_cases c : p + 2 ≤ k
      · have := ih p k _ (by omega) c (by omega) v1
        split <;> omega
      · rw [gp_C_0 v1 (by omega), if_neg (fun z => by have := hx.1 p k z; omega)]; omega
    have e2 : gp_C (gp_rs k q x) + (if x k q = true then 1 else 0) ≤ (q : Int) - k - 1 := by
      by_cases c : k + 2 ≤ q
      · have := ih k q _ (by omega) c (by omega) v2
        split <;> omega
      · rw [gp_C_0 v2 (by omega), if_neg (fun z => by have := hx.1 k q z; omega)]; omega
    omega
theorem gp_full {p q : Nat} {x : Nat → Nat → Bool} (h2 : p + 2 ≤ q) (h3 : q < 10) (hx : gp_V p q x) (hc : gp_C x + 2 = (q : Int) - p) :
    ∃ k, p < k ∧ k < q ∧ (k = p + 1 ∨ x p k = true) ∧ (q = k + 1 ∨ x k q = true) ∧ gp_V p k (gp_rs p k x) ∧ gp_V k q (gp_rs k q x) ∧ (p + 2 ≤ k → gp_C (gp_rs p k x) + 2 = (k : Int) - p) ∧ (k + 2 ≤ q → gp_C (gp_rs k q x) + 2 = (q : Int) - k) ∧ x = gp_bd k p q (gp_rs p k x) (gp_rs k q x) := by
  obtain ⟨k, a1, a2, a3, a4⟩ := gp_apex h2 hx
  obtain ⟨v1, v2⟩ := gp_rs_V a1 a2 hx
  rw [gp_split a1 a2 h3 hx a4] at hc
  have e1 : (p + 2 ≤ k → gp_C (gp_rs p k x) + 2 ≤ (k : Int) - p) ∧ (k = p + 1 → gp_C (gp_rs p k x) = 0 ∧ ¬ x p k = true) :=
    ⟨fun c => gp_bound q p k _ (by omega) c (by omega) v1, fun c => ⟨gp_C_0 v1 (by omega), fun z => by have := hx.1 p k z; omega⟩⟩
  have e2 : (k + 2 ≤ q → gp_C (gp_rs k q x) + 2 ≤ (q : Int) - k) ∧ (q = k + 1 → gp_C (gp_rs k q x) = 0 ∧ ¬ x k q = true) :=
    ⟨fun c => gp_bound q k q _ (by omega) c (by omega) v2, fun c => ⟨gp_C_0 v2 (by omega), fun z => by have := hx.1 k q z; omega⟩⟩
  have e3 : q = k + 1 ∨ x k q = true := by
    by_cases c : x k q = true
    · exact Or.inr c
    · rw [if_neg c] at hc
      left
      by_cases c1 : k = p + 1
      · have := e1.2 c1
        rw [if_neg this.2] at hc
        omega
      · have : (if x p k = true then (1 : Int) else 0) ≤ 1 := by split <;> omega
        omega
  have e4 : (p + 2 ≤ k → gp_C (gp_rs p k x) + 2 = (k : Int) - p) ∧ (k + 2 ≤ q → gp_C (gp_rs k q x) + 2 = (q : Int) - k) := by
    by_cases c1 : k = p + 1
    · have f1 := e1.2 c1
      rw [if_neg f1.2] at hc
      by_cases c2 : q = k + 1
      · omega
      · rw [if_pos (e3.resolve_left c2)] at hc
        omega
    · rw [if_pos (a3.resolve_left c1)] at hc
      by_cases c2 : q = k + 1
      · have f2 := e2.2 c2
        rw [if_neg f2.2] at hc
        omega
      · rw [if_pos (e3.resolve_left c2)] at hc
        omega
  refine ⟨k, a1, a2, a3, e3, v1, v2, e4.1, e4.2, ?_⟩
  funext i j
  rw [Bool.eq_iff_iff, gp_bd_mem, gp_rs_mem, gp_rs_mem]
  constructor
  · intro c
    have v := hx.1 i j c
    have s := a4 i j c
    by_cases f1 : i = p ∧ j = k
    · exact Or.inr (Or.inr (Or.inl (by omega)))
    · by_cases f2 : i = k ∧ j = q
      · exact Or.inr (Or.inr (Or.inr (by omega)))
      · rcases s with s | s
        · exact Or.inl ⟨c, by omega⟩
        · exact Or.inr (Or.inl ⟨c, by omega⟩)
  · rintro (h | h | h | h)
    · exact h.1
    · exact h.1
    · rw [h.1, h.2.1]
      exact a3.resolve_left (by omega)
    · rw [h.1, h.2.1]
      exact e3.resolve_left (by omega)
theorem gp_Tr_iff (B : Nat → Nat → Bool) : ∀ f p q (x : Nat → Nat → Bool), p < q → q ≤ p + f → q < 10 →
    (x ∈ gp_Tr B f p q ↔ (q = p + 1 ∧ x = fun _ _ => false) ∨ (p + 2 ≤ q ∧ gp_V p q x ∧ (∀ a b, x a b = true → B a b = true) ∧ gp_C x + 2 = (q : Int) - p)) := by
  intro f
  induction f with
  | zero => intro p q x h1 h2; omega
  | succ f ih =>
    intro p q x h1 h2 h3
    rw [gp_Tr_mem]
    have V0 : ∀ p, gp_V p (p + 1) (fun _ _ => false) := fun p => ⟨fun a b h => by simp at h, fun a b c d h => by simp at h⟩
    have C0 : gp_C (fun _ _ => false) = 0 := gp_C_0 (V0 0) (by omega)
    constructor
    · rintro (h | ⟨ne, k, k1, k2, l1, l2, a, ha, b, hb, e⟩)
      · exact Or.inl h
      · right
        rw [ih p k a k1 (by omega) (by omega)] at ha
        rw [ih k q b k2 (by omega) (by omega)] at hb
        have va : gp_V p k a ∧ (∀ i j, a i j = true → B i j = true) ∧ (p + 2 ≤ k → gp_C a + 2 = (k : Int) - p) ∧ (k = p + 1 → gp_C a = 0) := by
          rcases ha with ⟨z, w⟩ | ⟨z, w1, w2, w3⟩
          · subst z; rw [w]
            exact ⟨V0 p, fun i j h => by simp at h, fun h => by omega, fun _ => C0⟩
          · exact ⟨w1, w2, fun _ => w3, fun h => by omega⟩
        have vb : gp_V k q b ∧ (∀ i j, b i j = true → B i j = true) ∧ (k + 2 ≤ q → gp_C b + 2 = (q : Int) - k) ∧ (q = k + 1 → gp_C b = 0) := by
          rcases hb with ⟨z, w⟩ | ⟨z, w1, w2, w3⟩
          · subst z; rw [w]
            exact ⟨V0 k, fun i j h => by simp at h, fun h => by omega, fun _ => C0⟩
          · exact ⟨w1, w2, fun _ => w3, fun h => by omega⟩
        subst e
        refine ⟨by omega, gp_bd_V k1 k2 va.1 vb.1, fun i j h => ?_, ?_⟩
        · unfold gp_ln at l1 l2
          rw [Bool.or_eq_true, decide_eq_true_iff] at l1 l2
          rcases gp_bd_mem.mp h with h | h | h | h
          · exact va.2.1 i j h
          · exact vb.2.1 i j h
          · rw [h.1, h.2.1]; exact l1.resolve_left (by omega)
          · rw [h.1, h.2.1]; exact l2.resolve_left (by omega)
        · rw [gp_bd_C k1 k2 h3 va.1 vb.1]
          have t1 := va.2.2
          have t2 := vb.2.2
          by_cases c1 : p + 2 ≤ k <;> by_cases c2 : k + 2 ≤ q <;> simp only [c1, c2, if_true, if_false] <;> omega
    · rintro (h | ⟨h, hv, hB, hc⟩)
      · exact Or.inl h
      · right
        obtain ⟨k, k1, k2, l1, l2, v1, v2, c1, c2, e⟩ := gp_full h h3 hv hc
        have ee : ∀ {p k : Nat} {y : Nat → Nat → Bool}, k = p + 1 → gp_V p k y → y = fun _ _ => false := by
          intro p k y hk hy
          funext i j
          cases hh : y i j with
          | false => rfl
          | true => have := hy.1 i j hh; omega
        refine ⟨by omega, k, k1, k2, ?_, ?_, gp_rs p k x, ?_, gp_rs k q x, ?_, e⟩
        · unfold gp_ln
          rw [Bool.or_eq_true, decide_eq_true_iff]
          rcases l1 with l1 | l1
          · exact Or.inl l1
          · exact Or.inr (hB _ _ l1)
        · unfold gp_ln
          rw [Bool.or_eq_true, decide_eq_true_iff]
          rcases l2 with l2 | l2
          · exact Or.inl l2
          · exact Or.inr (hB _ _ l2)
        · rw [ih p k _ k1 (by omega) (by omega)]
          by_cases z : k = p + 1
          · exact Or.inl ⟨z, ee z v1⟩
          · exact Or.inr ⟨by omega, v1, fun i j w => hB i j (gp_rs_mem.mp w).1, c1 (by omega)⟩
        · rw [ih k q _ k2 (by omega) (by omega)]
          by_cases z : q = k + 1
          · exact Or.inl ⟨z, ee z v2⟩
          · exact Or.inr ⟨by omega, v2, fun i j w => hB i j (gp_rs_mem.mp w).1, c2 (by omega)⟩
theorem gp_Tr_V {B : Nat → Nat → Bool} {f p q : Nat} {x : Nat → Nat → Bool} (h1 : p < q) (h2 : q ≤ p + f) (h3 : q < 10) (h : x ∈ gp_Tr B f p q) : gp_V p q x := by
  rw [gp_Tr_iff B f p q x h1 h2 h3] at h
  rcases h with ⟨z, w⟩ | ⟨_, w, _⟩
  · rw [w]
    exact ⟨fun a b h => by simp at h, fun a b c d h => by simp at h⟩
  · exact w
theorem gp_Tr_nodup (B : Nat → Nat → Bool) : ∀ f p q, p < q → q ≤ p + f → q < 10 → (gp_Tr B f p q).Nodup := by
  intro f
  induction f with
  | zero => intro p q h1 h2; omega
  | succ f ih =>
    intro p q h1 h2 h3
    rw [gp_Tr]
    by_cases e : q = p + 1
    · rw [if_pos e]; exact List.pairwise_singleton _ _
    · rw [if_neg e]
      unfold List.Nodup
      rw [List.pairwise_flatMap]
      constructor
      · intro t ht
        have ht := List.mem_range.mp ht
        by_cases c : gp_ln B p (p + 1 + t) = true ∧ gp_ln B (p + 1 + t) q = true
        · rw [if_pos c, List.pairwise_flatMap]
          constructor
          · intro a ha
            rw [List.pairwise_map]
            refine List.Pairwise.imp_of_mem ?_ (ih (p + 1 + t) q (by omega) (by omega) (by omega))
            intro b b' hb hb' ne w
            have va := gp_Tr_V (by omega) (by omega) (by omega) ha
            have r1 := (gp_rs_bd (k := p + 1 + t) (p := p) (q := q) (by omega) (by omega) va (gp_Tr_V (by omega) (by omega) (by omega) hb)).2
            have r2 := (gp_rs_bd (k := p + 1 + t) (p := p) (q := q) (by omega) (by omega) va (gp_Tr_V (by omega) (by omega) (by omega) hb')).2
            rw [w, r2] at r1
            exact ne r1.symm
          · refine List.Pairwise.imp_of_mem ?_ (ih p (p + 1 + t) (by omega) (by omega) (by omega))
            intro a a' ha ha' ne x hx y hy w
            rw [List.mem_map] at hx hy
            obtain ⟨b, hb, hx⟩ := hx
            obtain ⟨b', hb', hy⟩ := hy
            have r1 := (gp_rs_bd (k := p + 1 + t) (p := p) (q := q) (by omega) (by omega) (gp_Tr_V (by omega) (by omega) (by omega) ha) (gp_Tr_V (by omega) (by omega) (by omega) hb)).1
            have r2 := (gp_rs_bd (k := p + 1 + t) (p := p) (q := q) (by omega) (by omega) (gp_Tr_V (by omega) (by omega) (by omega) ha') (gp_Tr_V (by omega) (by omega) (by omega) hb')).1
            rw [hx, w, ← hy, r2] at r1
            exact ne r1.symm
        · rw [if_neg c]; exact List.Pairwise.nil
      · refine List.Pairwise.imp_of_mem ?_ (List.pairwise_lt_range (n := q - p - 1))
        intro t t' ht ht' lt x hx y hy w
        have ht := List.mem_range.mp ht
        have ht' := List.mem_range.mp ht'
        by_cases c : gp_ln B p (p + 1 + t) = true ∧ gp_ln B (p + 1 + t) q = true
        · by_cases c' : gp_ln B p (p + 1 + t') = true ∧ gp_ln B (p + 1 + t') q = true
          · rw [if_pos c, List.mem_flatMap] at hx
            rw [if_pos c', List.mem_flatMap] at hy
            obtain ⟨a, ha, hx⟩ := hx
            obtain ⟨a', ha', hy⟩ := hy
            rw [List.mem_map] at hx hy
            obtain ⟨b, hb, hx⟩ := hx
            obtain ⟨b', hb', hy⟩ := hy
            have vv := gp_bd_V (k := p + 1 + t) (p := p) (q := q) (by omega) (by omega) (gp_Tr_V (by omega) (by omega) (by omega) ha) (gp_Tr_V (by omega) (by omega) (by omega) hb)
            have m1 : gp_bd (p + 1 + t) p q a b (p + 1 + t) q = true := gp_bd_mem.mpr (Or.inr (Or.inr (Or.inr ⟨rfl, rfl, by omega⟩)))
            have m2 : gp_bd (p + 1 + t') p q a' b' p (p + 1 + t') = true := gp_bd_mem.mpr (Or.inr (Or.inr (Or.inl ⟨rfl, rfl, by omega⟩)))
            rw [hy, ← w, ← hx] at m2
            exact vv.2 p (p + 1 + t') (p + 1 + t) q m2 m1 (by omega)
          · rw [if_neg c'] at hy; exact absurd hy List.not_mem_nil
        · rw [if_neg c] at hx; exact absurd hx List.not_mem_nil
end
section
/-! choices of cuts that don't cross, by the search's order -/
abbrev gp_nc (c d : Nat × Nat) : Prop := ¬ (c.1 < d.1 ∧ d.1 < c.2 ∧ c.2 < d.2) ∧ ¬ (d.1 < c.1 ∧ c.1 < d.2 ∧ d.2 < c.2)
abbrev gp_ok (F : List (Nat × Nat)) (c : Nat × Nat) : Prop := ∀ f, f ∈ F → gp_nc f c
def gp_sub : Nat → List (Nat × Nat) → List (Nat × Nat) → List (List (Nat × Nat))
  | 0, _, _ => [[]]
  | _ + 1, [], _ => []
  | k + 1, c :: l, F => (if gp_ok F c then (gp_sub k l (c :: F)).map (fun s => c :: s) else []) ++ gp_sub (k + 1) l F
theorem gp_sub_mem : ∀ (l : List (Nat × Nat)) (k : Nat) (F s : List (Nat × Nat)), s ∈ gp_sub k l F ↔ s.Sublist l ∧ s.length = k ∧ s.Pairwise gp_nc ∧ ∀ c, c ∈ s → ∀ f, f ∈ F → gp_nc f c := by
  intro l
  induction l with
  | nil =>
    intro k F s
    cases k with
    | zero =>
      rw [gp_sub, List.mem_singleton]
      constructor
      · rintro rfl
        exact ⟨List.Sublist.refl _, rfl, List.Pairwise.nil, fun c h => absurd h List.not_mem_nil⟩
      · rintro ⟨h, _⟩
        exact List.sublist_nil.mp h
    | succ k =>
      rw [gp_sub]
      constructor
      · exact fun h => absurd h List.not_mem_nil
      · rintro ⟨h, h2, _⟩
        rw [List.sublist_nil.mp h] at h2
        simp at h2
  | cons c l ih =>
    intro k F s
    cases k with
    | zero =>
      rw [gp_sub, List.mem_singleton]
      constructor
      · rintro rfl
        exact ⟨List.nil_sublist _, rfl, List.Pairwise.nil, fun c h => absurd h List.not_mem_nil⟩
      · rintro ⟨_, h, _⟩
        exact List.length_eq_zero_iff.mp h
    | succ k =>
      rw [gp_sub, List.mem_append, ih (k + 1) F s, List.sublist_cons_iff]
      constructor
      · rintro (h | ⟨h1, h2⟩)
        · by_cases o : gp_ok F c
          · rw [if_pos o, List.mem_map] at h
            obtain ⟨r, hr, rfl⟩ := h
            rw [ih k (c :: F) r] at hr
            obtain ⟨a1, a2, a3, a4⟩ := hr
            refine ⟨Or.inr ⟨r, rfl, a1⟩, by rw [List.length_cons, a2], List.pairwise_cons.mpr ⟨fun d hd => a4 d hd c (List.mem_cons_self ..), a3⟩, ?_⟩
            intro d hd f hf
            rcases List.mem_cons.mp hd with e | e
            · rw [e]; exact o f hf
            · exact a4 d e f (List.mem_cons_of_mem _ hf)
          · rw [if_neg o] at h
            exact absurd h List.not_mem_nil
        · exact ⟨Or.inl h1, h2⟩
      · rintro ⟨h1 | ⟨r, rfl, hr⟩, h2, h3, h4⟩
        · exact Or.inr ⟨h1, h2, h3, h4⟩
        · left
          rw [if_pos (fun f hf => h4 c (List.mem_cons_self ..) f hf), List.mem_map]
          refine ⟨r, ?_, rfl⟩
          rw [ih k (c :: F) r]
          rw [List.pairwise_cons] at h3
          rw [List.length_cons] at h2
          refine ⟨hr, by omega, h3.2, fun d hd f hf => ?_⟩
          rcases List.mem_cons.mp hf with e | e
          · rw [e]; exact h3.1 d hd
          · exact h4 d (List.mem_cons_of_mem _ hd) f e
theorem gp_sub_nodup : ∀ (l : List (Nat × Nat)) (k : Nat) (F : List (Nat × Nat)), l.Nodup → (gp_sub k l F).Nodup := by
  intro l
  induction l with
  | nil =>
    intro k F _
    cases k with
    | zero => rw [gp_sub]; exact List.pairwise_singleton _ _
    | succ k => rw [gp_sub]; exact List.Pairwise.nil
  | cons c l ih =>
    intro k F h
    cases k with
    | zero => rw [gp_sub]; exact List.pairwise_singleton _ _
    | succ k =>
      rw [List.nodup_cons] at h
      rw [gp_sub]
      unfold List.Nodup
      rw [List.pairwise_append]
      refine ⟨?_, ih (k + 1) F h.2, ?_⟩
      · by_cases o : gp_ok F c
        · rw [if_pos o, List.pairwise_map]
          refine List.Pairwise.imp ?_ (ih k (c :: F) h.2)
          intro a b ne e
          exact ne (List.cons.inj e).2
        · rw [if_neg o]; exact List.Pairwise.nil
      · intro a ha b hb e
        by_cases o : gp_ok F c
        · rw [if_pos o, List.mem_map] at ha
          obtain ⟨r, _, rfl⟩ := ha
          rw [gp_sub_mem] at hb
          have : c ∈ l := hb.1.subset (by rw [← e]; exact List.mem_cons_self ..)
          exact h.1 this
        · rw [if_neg o] at ha
          exact absurd ha List.not_mem_nil
def gp_ch (s : List (Nat × Nat)) : Nat → Nat → Bool := fun a b => decide ((a, b) ∈ s)
theorem gp_ch_mem {s : List (Nat × Nat)} {a b : Nat} : gp_ch s a b = true ↔ (a, b) ∈ s := by
  unfold gp_ch
  rw [decide_eq_true_iff]
theorem gp_ch_C : ∀ s : List (Nat × Nat), s.Nodup → (∀ c, c ∈ s → c.1 < 10 ∧ c.2 < 10) → gp_C (gp_ch s) = s.length := by
  intro s
  induction s with
  | nil =>
    intro _ _
    refine gp_sm_zero fun a _ => gp_sm_zero fun b _ => if_neg fun z => ?_
    rw [gp_ch_mem] at z
    exact absurd z List.not_mem_nil
  | cons c t ih =>
    intro h hb
    rw [List.nodup_cons] at h
    have i := ih h.2 (fun d hd => hb d (List.mem_cons_of_mem _ hd))
    have bc := hb c (List.mem_cons_self ..)
    rw [List.length_cons]
    have e : gp_C (gp_ch (c :: t)) = gp_C (gp_ch t) + 1 := by
      have pt := gp_C_pt c.1 c.2 bc.1 bc.2 True
      rw [if_pos trivial] at pt
      rw [← pt]
      unfold gp_C
      rw [← gp_sm_add]
      refine gp_sm_congr fun a _ => ?_
      rw [← gp_sm_add]
      refine gp_sm_congr fun b _ => ?_
      have m1 := gp_ch_mem (s := c :: t) (a := a) (b := b)
      have m2 := gp_ch_mem (s := t) (a := a) (b := b)
      rw [List.mem_cons] at m1
      by_cases q : (a, b) = c
      · have q' : True ∧ a = c.1 ∧ b = c.2 := ⟨trivial, by rw [← q], by rw [← q]⟩
        rw [if_pos (m1.mpr (Or.inl q)), if_neg (fun z => h.1 (by rw [← q]; exact m2.mp z)), if_pos q']; rfl
      · have q' : ¬ (True ∧ a = c.1 ∧ b = c.2) := fun z => q (Prod.ext z.2.1 z.2.2)
        rw [if_neg q', Int.add_zero]
        exact gp_if_iff (m1.trans ((or_iff_right q).trans m2.symm))
    rw [e, i]
    omega
theorem gp_pw {α : Type} {R : α → α → Prop} (hr : ∀ x, R x x) (hs : ∀ x y, R x y → R y x) : ∀ l : List α, l.Pairwise R → ∀ x, x ∈ l → ∀ y, y ∈ l → R x y := by
  intro l
  induction l with
  | nil => intro _ x h; exact absurd h List.not_mem_nil
  | cons a t ih =>
    intro h x hx y hy
    rw [List.pairwise_cons] at h
    rcases List.mem_cons.mp hx with e | e <;> rcases List.mem_cons.mp hy with f | f
    · rw [e, f]; exact hr a
    · rw [e]; exact h.1 y f
    · rw [f]; exact hs _ _ (h.1 x e)
    · exact ih h.2 x e y f
theorem gp_tile_eq (B : Nat → Nat → Bool) (n : Nat) (l : List (Nat × Nat)) (h3 : 3 ≤ n) (h10 : n ≤ 10) (hl : l.Nodup)
    (hm : ∀ a b, (a, b) ∈ l ↔ (a + 2 ≤ b ∧ b < n ∧ ¬ (a = 0 ∧ b + 1 = n) ∧ B a b = true)) :
    (gp_sub (n - 3) l []).length = (gp_Tr B 10 0 (n - 1)).length := by
  have key : ∀ s, s ∈ gp_sub (n - 3) l [] → gp_ch s ∈ gp_Tr B 10 0 (n - 1) := by
    intro s hs
    rw [gp_sub_mem] at hs
    obtain ⟨s1, s2, s3, _⟩ := hs
    have mm : ∀ a b, gp_ch s a b = true → (a + 2 ≤ b ∧ b < n ∧ ¬ (a = 0 ∧ b + 1 = n) ∧ B a b = true) := fun a b z => (hm a b).mp (s1.subset (gp_ch_mem.mp z))
    rw [gp_Tr_iff B 10 0 (n - 1) _ (by omega) (by omega) (by omega)]
    refine Or.inr ⟨by omega, ⟨fun a b z => ?_, fun a b c d z z' w => ?_⟩, fun a b z => (mm a b z).2.2.2, ?_⟩
    · have := mm a b z; omega
    · have p := gp_pw (R := gp_nc) (fun x => ⟨by omega, by omega⟩) (fun x y h => ⟨h.2, h.1⟩) s s3 (a, b) (gp_ch_mem.mp z) (c, d) (gp_ch_mem.mp z')
      exact p.1 w
    · have := gp_ch_C s (s1.nodup hl) (fun c hc => by have := (hm c.1 c.2).mp (s1.subset hc); omega)
      rw [this, s2]
      omega
  have inj : ∀ s t, s ∈ gp_sub (n - 3) l [] → t ∈ gp_sub (n - 3) l [] → gp_ch s = gp_ch t → s = t := by
    intro s t hs ht e
    rw [gp_sub_mem] at hs ht
    have me : ∀ c, c ∈ s ↔ c ∈ t := by
      intro c
      rw [show c = (c.1, c.2) from rfl, ← gp_ch_mem, ← gp_ch_mem, e]
    have f : ∀ u : List (Nat × Nat), u.Sublist l → u = l.filter (fun c => decide (c ∈ u)) := by
      intro u
      have : ∀ l' : List (Nat × Nat), l'.Nodup → ∀ u : List (Nat × Nat), u.Sublist l' → u = l'.filter (fun c => decide (c ∈ u)) := by
        intro l'
        induction l' with
        | nil => intro _ u hu; rw [List.sublist_nil.mp hu]; rfl
        | cons c l' ih =>
          intro nd u hu
          rw [List.nodup_cons] at nd
          rcases List.sublist_cons_iff.mp hu with h | ⟨r, rfl, h⟩
          · have nc : ¬ c ∈ u := fun z => nd.1 (h.subset z)
            rw [List.filter_cons_of_neg (by simpa using nc)]
            exact ih nd.2 u h
          · rw [List.filter_cons_of_pos (by simp)]
            have e1 := ih nd.2 r h
            have e2 : l'.filter (fun d => decide (d ∈ c :: r)) = l'.filter (fun d => decide (d ∈ r)) := by
              refine List.filter_congr fun d hd => ?_
              have : d ≠ c := fun z => nd.1 (by rw [← z]; exact hd)
              simp [this]
            rw [e2, ← e1]
      exact this l hl u
    rw [f s hs.1, f t ht.1]
    refine List.filter_congr fun d _ => ?_
    have := me d
    simp [this]
  have nd1 : ((gp_sub (n - 3) l []).map gp_ch).Nodup := by
    unfold List.Nodup
    rw [List.pairwise_map]
    refine List.Pairwise.imp_of_mem ?_ (gp_sub_nodup l (n - 3) [] hl)
    intro a b ha hb ne e
    exact ne (inj a b ha hb e)
  have nd2 := gp_Tr_nodup B 10 0 (n - 1) (by omega) (by omega) (by omega)
  have perm := (List.perm_ext_iff_of_nodup nd1 nd2).mpr fun x => by
    constructor
    · intro h
      rw [List.mem_map] at h
      obtain ⟨s, hs, rfl⟩ := h
      exact key s hs
    · intro h
      rw [List.mem_map]
      rw [gp_Tr_iff B 10 0 (n - 1) _ (by omega) (by omega) (by omega)] at h
      rcases h with ⟨z, _⟩ | ⟨_, hv, hB, hc⟩
      · omega
      · have ee : gp_ch (l.filter (fun c => x c.1 c.2)) = x := by
          funext a b
          rw [Bool.eq_iff_iff, gp_ch_mem, List.mem_filter]
          constructor
          · exact fun z => z.2
          · intro z
            have v := hv.1 a b z
            exact ⟨(hm a b).mpr ⟨by omega, by omega, by omega, hB a b z⟩, z⟩
        refine ⟨l.filter (fun c => x c.1 c.2), ?_, ee⟩
        rw [gp_sub_mem]
        refine ⟨List.filter_sublist, ?_, ?_, fun c _ f hf => absurd hf List.not_mem_nil⟩
        · have := gp_ch_C (l.filter (fun c => x c.1 c.2)) (List.filter_sublist.nodup hl) (fun c hc => by
            have := (hm c.1 c.2).mp (List.mem_filter.mp hc).1
            omega)
          rw [ee] at this
          omega
        · refine List.pairwise_of_forall_mem_list fun a ha b hb => ?_
          have xa := (List.mem_filter.mp ha).2
          have xb := (List.mem_filter.mp hb).2
          exact ⟨hv.2 _ _ _ _ xa xb, hv.2 _ _ _ _ xb xa⟩
  have := perm.length_eq
  rw [List.length_map] at this
  exact this
theorem gp_sub_len (k : Nat) (c : Nat × Nat) (l F : List (Nat × Nat)) : (gp_sub (k + 1) (c :: l) F).length = (if gp_ok F c then (gp_sub k l (c :: F)).length else 0) + (gp_sub (k + 1) l F).length := by
  rw [gp_sub, List.length_append]
  by_cases o : gp_ok F c
  · rw [if_pos o, if_pos o, List.length_map]
  · rw [if_neg o, if_neg o]; rfl
/-- the table of ways -/
def gp_W (B : Nat → Nat → Bool) (p q : Nat) : Nat := (gp_Tr B 10 p q).length
theorem gp_W_1 (B : Nat → Nat → Bool) (p : Nat) : gp_W B p (p + 1) = 1 := by
  unfold gp_W
  rw [gp_Tr, if_pos rfl]; rfl
def gp_nsm (f : Nat → Nat) : Nat → Nat
  | 0 => 0
  | n + 1 => gp_nsm f n + f n
theorem gp_nsm_range (f : Nat → Nat) (n : Nat) : ((List.range n).map f).sum = gp_nsm f n := by
  induction n with
  | zero => rfl
  | succ n ih => rw [List.range_succ, List.map_append, List.sum_append, ih]; simp [gp_nsm]
theorem gp_nsm_congr {f g : Nat → Nat} {n : Nat} (h : ∀ i, i < n → f i = g i) : gp_nsm f n = gp_nsm g n := by
  induction n with
  | zero => rfl
  | succ n ih => unfold gp_nsm; rw [ih (fun i hi => h i (by omega)), h n (by omega)]
theorem gp_W_s (B : Nat → Nat → Bool) (p q : Nat) (h : p + 2 ≤ q) (hq : q < 10) :
    gp_W B p q = gp_nsm (fun t => if gp_ln B p (p + 1 + t) = true ∧ gp_ln B (p + 1 + t) q = true then gp_W B p (p + 1 + t) * gp_W B (p + 1 + t) q else 0) (q - p - 1) := by
  unfold gp_W
  rw [gp_Tr, if_neg (by omega), List.length_flatMap, gp_nsm_range]
  refine gp_nsm_congr fun t ht => ?_
  by_cases c : gp_ln B p (p + 1 + t) = true ∧ gp_ln B (p + 1 + t) q = true
  · rw [if_pos c, if_pos c, List.length_flatMap]
    have : (fun a => ((gp_Tr B 9 (p + 1 + t) q).map fun b => gp_bd (p + 1 + t) p q a b).length) = fun _ => (gp_Tr B 9 (p + 1 + t) q).length := by
      funext a
      rw [List.length_map]
    rw [this, List.map_const', List.sum_replicate_nat, gp_Tr_fuel B 9 10 p (p + 1 + t) (by omega) (by omega) (by omega), gp_Tr_fuel B 9 10 (p + 1 + t) q (by omega) (by omega) (by omega)]
  · rw [if_neg c, if_neg c]; rfl
end
section
/-! chains along the hull -/
theorem gp_pl1 (u a b c z : Int × Int) : (gp_f u b - gp_f u a) * gp_turn a c z = (gp_f u z - gp_f u a) * (- gp_turn a b c) + (gp_f u c - gp_f u a) * gp_turn a b z := by
  unfold gp_f gp_turn; grind
theorem gp_posl {a b : Int} (ha : 0 < a) (h : 0 ≤ a * b) : 0 ≤ b := by
  have := gp_sgn a b
  omega
theorem gp_h1 {u a b c z : Int × Int} (h1 : gp_f u a < gp_f u b) (h2 : gp_f u a ≤ gp_f u z) (h3 : gp_f u a ≤ gp_f u c) (t1 : gp_turn a b c ≤ 0) (t2 : 0 ≤ gp_turn a b z) : 0 ≤ gp_turn a c z := by
  have e := gp_pl1 u a b c z
  have p1 := Int.mul_nonneg (show 0 ≤ gp_f u z - gp_f u a by omega) (show 0 ≤ - gp_turn a b c by omega)
  have p2 := Int.mul_nonneg (show 0 ≤ gp_f u c - gp_f u a by omega) t2
  exact gp_posl (show 0 < gp_f u b - gp_f u a by omega) (by omega)
theorem gp_h2 {u a t c z : Int × Int} (h1 : gp_f u a < gp_f u t) (h2 : gp_f u z < gp_f u t) (h3 : gp_f u t ≤ gp_f u c) (t1 : 0 < gp_turn a t c) (t2 : 0 ≤ gp_turn a t z) : 0 ≤ gp_turn t c z := by
  have e : (gp_f u t - gp_f u a) * gp_turn t c z = (gp_f u c - gp_f u t) * gp_turn a t z + (gp_f u t - gp_f u z) * gp_turn a t c := by
    unfold gp_f gp_turn; grind
  have p1 := Int.mul_nonneg (show 0 ≤ gp_f u c - gp_f u t by omega) t2
  have p2 := Int.mul_nonneg (show 0 ≤ gp_f u t - gp_f u z by omega) (show 0 ≤ gp_turn a t c by omega)
  exact gp_posl (show 0 < gp_f u t - gp_f u a by omega) (by omega)
theorem gp_h3 {u a s b c : Int × Int} (h1 : gp_f u a < gp_f u s) (h2 : gp_f u s < gp_f u b) (h3 : gp_f u s ≤ gp_f u c) (t1 : 0 < gp_turn a s b) (t2 : 0 ≤ gp_turn s b c) : 0 ≤ gp_turn a s c := by
  have e : (gp_f u b - gp_f u s) * gp_turn a s c = (gp_f u s - gp_f u a) * gp_turn s b c + (gp_f u c - gp_f u s) * gp_turn a s b := by
    unfold gp_f gp_turn; grind
  have p1 := Int.mul_nonneg (show 0 ≤ gp_f u s - gp_f u a by omega) t2
  have p2 := Int.mul_nonneg (show 0 ≤ gp_f u c - gp_f u s by omega) (show 0 ≤ gp_turn a s b by omega)
  exact gp_posl (show 0 < gp_f u b - gp_f u s by omega) (by omega)
def gp_Ch (u : Int × Int) (z : Nat → Int × Int) (m : Nat) (st : Nat → Int × Int) (k : Nat) : Prop :=
  (∀ j, j + 1 < k → gp_f u (st j) < gp_f u (st (j + 1))) ∧ (∀ j, j + 2 < k → 0 < gp_turn (st j) (st (j + 1)) (st (j + 2))) ∧
  (∀ i j, i < m → j + 1 < k → 0 ≤ gp_turn (st j) (st (j + 1)) (z i)) ∧ (∀ j, j < k → ∃ i, i < m ∧ z i = st j)
def gp_PI (u : Int × Int) (z : Nat → Int × Int) (m : Nat) (st : Nat → Int × Int) (k : Nat) (c : Int × Int) : Prop :=
  1 ≤ k ∧ gp_Ch u z m st k ∧ ∀ i, i < m → gp_f u (st (k - 1)) ≤ gp_f u (z i) → 0 ≤ gp_turn (st (k - 1)) c (z i)
def gp_pop (st : Nat → Int × Int) (c : Int × Int) : Nat → Nat
  | 0 => 0
  | 1 => 1
  | k + 2 => if gp_turn (st k) (st (k + 1)) c ≤ 0 then gp_pop st c (k + 1) else k + 2
theorem gp_pop_le (st : Nat → Int × Int) (c : Int × Int) : ∀ k, gp_pop st c k ≤ k ∧ (1 ≤ k → 1 ≤ gp_pop st c k) := by
  intro k
  induction k with
  | zero => exact ⟨Nat.le_refl _, fun h => h⟩
  | succ k ih =>
    cases k with
    | zero => exact ⟨Nat.le_refl _, fun h => h⟩
    | succ k =>
      rw [gp_pop]
      split
      · exact ⟨by omega, fun _ => ih.2 (by omega)⟩
      · exact ⟨by omega, fun _ => by omega⟩
theorem gp_Ch_less {u : Int × Int} {z : Nat → Int × Int} {m : Nat} {st : Nat → Int × Int} {k k' : Nat} (h : gp_Ch u z m st k) (hk : k' ≤ k) : gp_Ch u z m st k' :=
  ⟨fun j hj => h.1 j (by omega), fun j hj => h.2.1 j (by omega), fun i j hi hj => h.2.2.1 i j hi (by omega), fun j hj => h.2.2.2 j (by omega)⟩
theorem gp_pop_PI {u : Int × Int} {z : Nat → Int × Int} {m : Nat} {st : Nat → Int × Int} {c : Int × Int} (hc : ∀ i, i < m → gp_f u (z i) ≤ gp_f u c) :
    ∀ k, gp_PI u z m st k c → gp_PI u z m st (gp_pop st c k) c ∧ (gp_pop st c k = 1 ∨ (2 ≤ gp_pop st c k ∧ 0 < gp_turn (st (gp_pop st c k - 2)) (st (gp_pop st c k - 1)) c)) := by
  intro k
  induction k with
  | zero => intro h; exact absurd h.1 (by omega)
  | succ k ih =>
    intro h
    cases k with
    | zero => exact ⟨h, Or.inl rfl⟩
    | succ k =>
      rw [gp_pop]
      by_cases t : gp_turn (st k) (st (k + 1)) c ≤ 0
      · rw [if_pos t]
        refine ih ⟨by omega, gp_Ch_less h.2.1 (by omega), fun i hi hg => ?_⟩
        rw [show k + 1 - 1 = k by omega] at *
        obtain ⟨r, hr, er⟩ := h.2.1.2.2.2 k (by omega)
        exact gp_h1 (h.2.1.1 k (by omega)) hg (by rw [← er]; exact hc r hr) t (h.2.1.2.2.1 i k hi (by omega))
      · rw [if_neg t]
        refine ⟨h, Or.inr ⟨by omega, ?_⟩⟩
        rw [show k + 2 - 2 = k by omega, show k + 2 - 1 = k + 1 by omega]
        omega
/-- a new point on top -/
theorem gp_push {u : Int × Int} {z : Nat → Int × Int} {m : Nat} {st st' : Nat → Int × Int} {c : Int × Int} {k : Nat} (hm : 1 ≤ m) (h : gp_PI u z m st k c)
    (hc : ∀ i, i < m → gp_f u (z i) ≤ gp_f u c) (hz : z m = c) (h0 : st 0 = z 0) (hmin : ∀ i, i < m → gp_f u (z 0) ≤ gp_f u (z i))
    (hk : k = 1 ∨ (2 ≤ k ∧ 0 < gp_turn (st (k - 2)) (st (k - 1)) c)) (hlt : gp_f u (st (k - 1)) < gp_f u c)
    (e1 : ∀ j, j < k → st' j = st j) (e2 : st' k = c) : gp_Ch u z (m + 1) st' (k + 1) := by
  obtain ⟨k1, ⟨c1, c2, c3, c4⟩, pi⟩ := h
  have all : ∀ i, i < m → 0 ≤ gp_turn (st (k - 1)) c (z i) := by
    intro i hi
    by_cases g : gp_f u (st (k - 1)) ≤ gp_f u (z i)
    · exact pi i hi g
    · rcases hk with e | ⟨k2, t⟩
      · subst e
        have := hmin i hi
        rw [show (1 : Nat) - 1 = 0 from rfl, h0] at g
        omega
      · have a := c1 (k - 2) (by omega)
        have b := c3 i (k - 2) hi (by omega)
        rw [show k - 2 + 1 = k - 1 by omega] at a b
        exact gp_h2 a (by omega) (by omega) t b
  have down : ∀ d j, j + 1 + d = k - 1 → 0 ≤ gp_turn (st j) (st (j + 1)) c := by
    intro d
    induction d with
    | zero =>
      intro j hj
      rcases hk with e | ⟨k2, t⟩
      · omega
      · rw [show k - 2 = j by omega, show k - 1 = j + 1 by omega] at t
        omega
    | succ d ih =>
      intro j hj
      have a := ih (j + 1) (by omega)
      obtain ⟨r, hr, er⟩ := c4 (j + 1) (by omega)
      exact gp_h3 (c1 j (by omega)) (c1 (j + 1) (by omega)) (by rw [← er]; exact hc r hr) (c2 j (by omega)) a
  refine ⟨fun j hj => ?_, fun j hj => ?_, fun i j hi hj => ?_, fun j hj => ?_⟩
  · by_cases e : j + 1 = k
    · rw [e, e2, e1 j (by omega), show j = k - 1 by omega]; exact hlt
    · rw [e1 j (by omega), e1 (j + 1) (by omega)]; exact c1 j (by omega)
  · by_cases e : j + 2 = k
    · rw [e, e2, e1 j (by omega), e1 (j + 1) (by omega)]
      rcases hk with q | ⟨k2, t⟩
      · omega
      · rw [show k - 2 = j by omega, show k - 1 = j + 1 by omega] at t
        exact t
    · rw [e1 j (by omega), e1 (j + 1) (by omega), e1 (j + 2) (by omega)]; exact c2 j (by omega)
  · by_cases e : j + 1 = k
    · rw [e, e2, e1 j (by omega), show j = k - 1 by omega]
      by_cases f : i = m
      · rw [f, hz]; unfold gp_turn; grind
      · exact all i (by omega)
    · rw [e1 j (by omega), e1 (j + 1) (by omega)]
      by_cases f : i = m
      · rw [f, hz]; exact down (k - 1 - (j + 1)) j (by omega)
      · exact c3 i j (by omega) (by omega)
  · by_cases e : j = k
    · exact ⟨m, by omega, by rw [e, e2, hz]⟩
    · obtain ⟨r, hr, er⟩ := c4 j (by omega)
      exact ⟨r, by omega, by rw [er, e1 j (by omega)]⟩
/-- the state of a pass: all points so far are one point, or a chain -/
def gp_St (u : Int × Int) (z : Nat → Int × Int) (m : Nat) (st : Nat → Int × Int) (k : Nat) : Prop :=
  1 ≤ k ∧ k ≤ m ∧ st 0 = z 0 ∧ st (k - 1) = z (m - 1) ∧
  (((∀ i, i < m → z i = z 0) ∧ k ≤ 2) ∨ (2 ≤ k ∧ gp_Ch u z m st k))
theorem gp_St_step {u : Int × Int} {z : Nat → Int × Int} {m : Nat} {st st' : Nat → Int × Int} {k : Nat} (inj : ∀ i j, i ≤ m → j ≤ m → gp_f u (z i) = gp_f u (z j) → z i = z j)
    (srt : ∀ i j, i ≤ j → j ≤ m → gp_f u (z i) ≤ gp_f u (z j)) (h : gp_St u z m st k)
    (e1 : ∀ j, j < gp_pop st (z m) k → st' j = st j) (e2 : st' (gp_pop st (z m) k) = z m) : gp_St u z (m + 1) st' (gp_pop st (z m) k + 1) := by
  obtain ⟨k1, km, s0, sl, h⟩ := h
  have ple := gp_pop_le st (z m) k
  have hc : ∀ i, i < m → gp_f u (z i) ≤ gp_f u (z m) := fun i hi => srt i m (by omega) (by omega)
  have hmin : ∀ i, i < m → gp_f u (z 0) ≤ gp_f u (z i) := fun i hi => srt 0 i (by omega) (by omega)
  refine ⟨by omega, by omega, by rw [e1 0 (by have := ple.2 k1; omega), s0], by rw [Nat.add_sub_cancel, e2, Nat.add_sub_cancel], ?_⟩
  rcases h with ⟨h, k2⟩ | ⟨k2, h⟩
  · by_cases q : z m = z 0
    · left
      refine ⟨fun i hi => ?_, ?_⟩
      · by_cases e : i = m
        · rw [e, q]
        · exact h i (by omega)
      · have : gp_pop st (z m) k = 1 := by
          by_cases e : k = 1
          · rw [e]; rfl
          · have e : k = 2 := by omega
            rw [e] at sl ⊢
            have t : gp_turn (st 0) (st (0 + 1)) (z m) ≤ 0 := by
              rw [s0, show (0 : Nat) + 1 = 2 - 1 from rfl, sl, h (m - 1) (by omega)]
              unfold gp_turn; grind
            rw [show (2 : Nat) = 0 + 2 from rfl, gp_pop, if_pos t]; rfl
        omega
    · right
      have p1 : gp_pop st (z m) k = 1 := by
        by_cases e : k = 1
        · rw [e]; rfl
        · have e : k = 2 := by omega
          rw [e] at sl ⊢
          have t : gp_turn (st 0) (st (0 + 1)) (z m) ≤ 0 := by
            rw [s0, show (0 : Nat) + 1 = 2 - 1 from rfl, sl, h (m - 1) (by omega)]
            unfold gp_turn; grind
          rw [show (2 : Nat) = 0 + 2 from rfl, gp_pop, if_pos t]; rfl
      refine ⟨by omega, ?_⟩
      rw [p1] at e1 e2 ⊢
      refine gp_push (st := st) (k := 1) (by omega) ⟨by omega, ⟨fun j hj => by omega, fun j hj => by omega, fun i j hi hj => by omega, fun j hj => ⟨0, by omega, by rw [show j = 0 by omega, s0]⟩⟩, fun i hi _ => ?_⟩ hc rfl s0 hmin (Or.inl rfl) ?_ e1 e2
      · rw [h i hi, show (1 : Nat) - 1 = 0 from rfl, s0]
        unfold gp_turn; grind
      · rw [show (1 : Nat) - 1 = 0 from rfl, s0]
        have a := hc 0 (by omega)
        have b : gp_f u (z 0) ≠ gp_f u (z m) := fun e => q (inj m 0 (by omega) (by omega) e.symm)
        omega
  · right
    have pi : gp_PI u z m st k (z m) := ⟨k1, h, fun i hi g => by
      rw [sl] at g ⊢
      have : z i = z (m - 1) := inj i (m - 1) (by omega) (by omega) (by
        have := srt i (m - 1) (by omega) (by omega)
        omega)
      rw [this]
      unfold gp_turn; grind⟩
    obtain ⟨pi', pk⟩ := gp_pop_PI hc k pi
    refine ⟨by have := ple.2 k1; omega, ?_⟩
    refine gp_push (by omega) pi' hc rfl s0 hmin pk ?_ e1 e2
    obtain ⟨r, hr, er⟩ := pi'.2.1.2.2.2 (gp_pop st (z m) k - 1) (by have := ple.2 k1; omega)
    have a := hc r hr
    rw [er] at a
    by_cases b : gp_f u (st (gp_pop st (z m) k - 1)) = gp_f u (z m)
    · exfalso
      have eq : z r = z m := inj r m (by omega) (by omega) (by rw [er]; exact b)
      rcases pk with p1 | ⟨p2, t⟩
      · have z0m : z 0 = z m := by
          rw [p1, show (1 : Nat) - 1 = 0 from rfl, s0] at er
          rw [← er, eq]
        have q := h.1 0 (by omega)
        obtain ⟨r', hr', er'⟩ := h.2.2.2 (0 + 1) (by omega)
        have := hc r' hr'
        rw [er', ← z0m, ← s0] at this
        omega
      · rw [← er, eq] at t
        have : gp_turn (st (gp_pop st (z m) k - 2)) (z m) (z m) = 0 := by unfold gp_turn; grind
        omega
    · omega
/-- what a finished chain says of its points -/
theorem gp_Ch_btw {u : Int × Int} {z : Nat → Int × Int} {m : Nat} {st : Nat → Int × Int} {k : Nat} (h : gp_Ch u z m st k)
    (hmin : ∀ i, i < m → gp_f u (st 0) ≤ gp_f u (z i)) (hmax : ∀ i, i < m → gp_f u (z i) ≤ gp_f u (st (k - 1))) {i j : Nat} (hi : i < m) (hj : j + 1 < k)
    (t : gp_turn (st j) (st (j + 1)) (z i) = 0) : gp_f u (st j) ≤ gp_f u (z i) ∧ gp_f u (z i) ≤ gp_f u (st (j + 1)) := by
  obtain ⟨c1, c2, c3, c4⟩ := h
  have g := c1 j hj
  constructor
  · by_cases c : gp_f u (st j) ≤ gp_f u (z i)
    · exact c
    · exfalso
      have j0 : j ≠ 0 := fun e => by rw [e] at c; exact c (hmin i hi)
      obtain ⟨l, rfl⟩ : ∃ l, j = l + 1 := ⟨j - 1, by omega⟩
      have a := c2 l (by omega)
      have b := c3 i l hi (by omega)
      have g0 := c1 l (by omega)
      have e : (gp_f u (st (l + 2)) - gp_f u (st (l + 1))) * gp_turn (st l) (st (l + 1)) (z i) = (gp_f u (st (l + 1)) - gp_f u (st l)) * gp_turn (st (l + 1)) (st (l + 2)) (z i) + (gp_f u (z i) - gp_f u (st (l + 1))) * gp_turn (st l) (st (l + 1)) (st (l + 2)) := by
        unfold gp_f gp_turn; grind
      rw [show l + 1 + 1 = l + 2 from rfl] at t g
      rw [t, Int.mul_zero, Int.zero_add] at e
      have p1 := Int.mul_nonneg (show 0 ≤ gp_f u (st (l + 2)) - gp_f u (st (l + 1)) by omega) b
      have p2 := Int.mul_neg_of_neg_of_pos (show gp_f u (z i) - gp_f u (st (l + 1)) < 0 by omega) a
      omega
  · by_cases c : gp_f u (z i) ≤ gp_f u (st (j + 1))
    · exact c
    · exfalso
      have jk : j + 2 < k := by
        by_cases e : j + 2 = k
        · have := hmax i hi
          rw [show k - 1 = j + 1 by omega] at this
          omega
        · omega
      have a := c2 j jk
      have b := c3 i (j + 1) hi jk
      rw [show j + 1 + 1 = j + 2 from rfl] at b
      have e : (gp_f u (st (j + 1)) - gp_f u (st j)) * gp_turn (st (j + 1)) (st (j + 2)) (z i) + (gp_f u (z i) - gp_f u (st (j + 1))) * gp_turn (st j) (st (j + 1)) (st (j + 2)) = (gp_f u (st (j + 2)) - gp_f u (st (j + 1))) * gp_turn (st j) (st (j + 1)) (z i) := by
        unfold gp_f gp_turn; grind
      rw [t, Int.mul_zero] at e
      have p1 := Int.mul_nonneg (show 0 ≤ gp_f u (st (j + 1)) - gp_f u (st j) by omega) b
      have p2 := Int.mul_pos (show 0 < gp_f u (z i) - gp_f u (st (j + 1)) by omega) a
      omega
theorem gp_Ch_all {u : Int × Int} {z : Nat → Int × Int} {m : Nat} {st : Nat → Int × Int} {k : Nat} (inj : ∀ i j, i < m → j < m → gp_f u (z i) = gp_f u (z j) → z i = z j) (h : gp_Ch u z m st k) (hk : 2 ≤ k)
    (hmin : ∀ i, i < m → gp_f u (st 0) ≤ gp_f u (z i)) (hmax : ∀ i, i < m → gp_f u (z i) ≤ gp_f u (st (k - 1))) {ia ib : Nat} (ha : ia < m) (hb : ib < m) (hab : gp_f u (z ia) < gp_f u (z ib))
    (hl : ∀ i, i < m → 0 ≤ gp_turn (z ia) (z ib) (z i)) (hcol : ∀ i, i < m → gp_turn (z ia) (z ib) (z i) = 0 → gp_f u (z ia) ≤ gp_f u (z i) ∧ gp_f u (z i) ≤ gp_f u (z ib)) :
    ∃ j, j + 1 < k ∧ st j = z ia ∧ st (j + 1) = z ib := by
  obtain ⟨j, q1, _, q3, q4⟩ := gp_maxk (fun j => gp_f u (st j) ≤ gp_f u (z ia)) k k 0 (by omega) (hmin ia ha) (by omega)
  have hch := h
  obtain ⟨c1, c2, c3, c4⟩ := h
  have jk : j + 1 < k := by
    by_cases e : j + 1 = k
    · have := hmax ib hb
      rw [show k - 1 = j by omega] at this
      omega
    · omega
  have q5 := q4 (j + 1) (by omega) jk
  obtain ⟨rs, hrs, ers⟩ := c4 j (by omega)
  obtain ⟨rt, hrt, ert⟩ := c4 (j + 1) jk
  have ls := hl rs hrs
  have lt := hl rt hrt
  have cs := hcol rs hrs
  have ct := hcol rt hrt
  rw [ers] at ls cs
  rw [ert] at lt ct
  have eA : st j = z ia := by
    rw [← ers]
    refine inj rs ia hrs ha ?_
    rw [ers]
    by_cases c : gp_f u (st j) = gp_f u (z ia)
    · exact c
    · exfalso
      have d := c3 ia j ha jk
      have e : (gp_f u (z ia) - gp_f u (st j)) * gp_turn (z ia) (z ib) (st (j + 1)) + (gp_f u (st (j + 1)) - gp_f u (z ia)) * gp_turn (z ia) (z ib) (st j) + (gp_f u (z ib) - gp_f u (z ia)) * gp_turn (st j) (st (j + 1)) (z ia) = 0 := by
        unfold gp_f gp_turn; grind
      have p1 := Int.mul_nonneg (show 0 ≤ gp_f u (z ia) - gp_f u (st j) by omega) lt
      have p2 := Int.mul_nonneg (show 0 ≤ gp_f u (st (j + 1)) - gp_f u (z ia) by omega) ls
      have p3 := Int.mul_nonneg (show 0 ≤ gp_f u (z ib) - gp_f u (z ia) by omega) d
      have z2 : (gp_f u (st (j + 1)) - gp_f u (z ia)) * gp_turn (z ia) (z ib) (st j) = 0 := by omega
      rcases gp_mzero.mp z2 with w | w
      · omega
      · have := cs w; omega
  refine ⟨j, jk, eA, ?_⟩
  have d := c3 ib j hb jk
  have t0 : gp_turn (st j) (st (j + 1)) (z ib) = - gp_turn (z ia) (z ib) (st (j + 1)) := by
    rw [eA]; unfold gp_turn; grind
  have t1 : gp_turn (st j) (st (j + 1)) (z ib) = 0 := by omega
  have b1 := gp_Ch_btw hch hmin hmax hb jk t1
  have b2 := ct (by omega)
  rw [← ert]
  refine inj rt ib hrt hb ?_
  rw [ert]
  omega
end
section
/-! the hull: all sides by pairs, and the two chains -/
abbrev gp_cr (a b : Int × Int) : Int := a.1 * b.2 - b.1 * a.2
def gp_fst (p : Nat → Int × Int) (i : Nat) : Prop := ∀ j, j < i → p j ≠ p i
def gp_hsd (p : Nat → Int × Int) (n i k : Nat) : Prop := i ≠ k ∧ gp_fst p i ∧ gp_fst p k ∧ (∀ q, q < n → 0 ≤ gp_turn (p i) (p k) (p q) ∧ (gp_turn (p i) (p k) (p q) = 0 → gp_os (p q) (p i) (p k))) ∧ ∃ q, q < n ∧ 0 < gp_turn (p i) (p k) (p q)
def gp_G : Int × Int := (64, 1)
def gp_G' : Int × Int := (-64, -1)
theorem gp_G_neg (a : Int × Int) : gp_f gp_G' a = - gp_f gp_G a := by unfold gp_f gp_G gp_G'; dsimp only; omega
theorem gp_G_inj {a b : Int × Int} (ha : gp_in a) (hb : gp_in b) (h : gp_f gp_G a = gp_f gp_G b) : a = b := by
  unfold gp_in at *
  unfold gp_f gp_G at h
  dsimp only at h
  exact Prod.ext (by omega) (by omega)
theorem gp_os_G {p a b : Int × Int} (hab : gp_f gp_G a ≠ gp_f gp_G b) : gp_os p a b ↔ gp_turn a b p = 0 ∧ ((gp_f gp_G a ≤ gp_f gp_G p ∧ gp_f gp_G p ≤ gp_f gp_G b) ∨ (gp_f gp_G b ≤ gp_f gp_G p ∧ gp_f gp_G p ≤ gp_f gp_G a)) := by
  by_cases t : gp_turn a b p = 0
  · have hv0 : gp_f gp_G b - gp_f gp_G a ≠ 0 := by omega
    have e1 : (p.1 - a.1) * (gp_f gp_G b - gp_f gp_G a) = (gp_f gp_G p - gp_f gp_G a) * (b.1 - a.1) := by
      unfold gp_turn at t; unfold gp_f gp_G; dsimp only; grind
    have e2 : (p.2 - a.2) * (gp_f gp_G b - gp_f gp_G a) = (gp_f gp_G p - gp_f gp_G a) * (b.2 - a.2) := by
      unfold gp_turn at t; unfold gp_f gp_G; dsimp only; grind
    constructor
    · rintro ⟨_, h1, h2⟩
      refine ⟨t, ?_⟩
      unfold gp_bt at h1 h2
      by_cases v0 : b.1 - a.1 = 0
      · by_cases v1 : b.2 - a.2 = 0
        · exfalso; apply hv0; unfold gp_f gp_G; dsimp only; omega
        · have := gp_btw2 e2 hv0 v1 (by omega)
          omega
      · have := gp_btw2 e1 hv0 v0 (by omega)
        omega
    · rintro ⟨_, h⟩
      have b1 := gp_btw e1 hv0 (by omega)
      have b2 := gp_btw e2 hv0 (by omega)
      exact ⟨t, by unfold gp_bt; omega, by unfold gp_bt; omega⟩
  · constructor
    · exact fun h => absurd h.1 t
    · exact fun h => absurd h.1 t
theorem gp_first_ex (p : Nat → Int × Int) (A : Int × Int) : ∀ n, (∃ i, i < n ∧ p i = A) → ∃ i, i < n ∧ p i = A ∧ gp_fst p i := by
  intro n
  induction n with
  | zero => rintro ⟨i, hi, _⟩; omega
  | succ n ih =>
    rintro ⟨i, hi, e⟩
    by_cases c : ∃ i, i < n ∧ p i = A
    · obtain ⟨i, a, b, d⟩ := ih c
      exact ⟨i, by omega, b, d⟩
    · have : i = n := by
        by_cases q : i = n
        · exact q
        · exact absurd ⟨i, by omega, e⟩ c
      subst this
      exact ⟨i, hi, e, fun j hj z => c ⟨j, hj, z.trans e⟩⟩
theorem gp_fst_uni {p : Nat → Int × Int} {i i' : Nat} (h : gp_fst p i) (h' : gp_fst p i') (e : p i = p i') : i = i' := by
  rcases Nat.lt_trichotomy i i' with c | c | c
  · exact absurd e (h' i c)
  · exact c
  · exact absurd e.symm (h i' c)
theorem gp_line {a b p q r : Int × Int} (hab : gp_f gp_G a ≠ gp_f gp_G b) (h1 : gp_turn a b p = 0) (h2 : gp_turn a b q = 0) (h3 : gp_turn a b r = 0) : gp_turn p q r = 0 := by
  have e : (gp_f gp_G b - gp_f gp_G a) * gp_turn p q r = gp_turn a b p * (gp_f gp_G r - gp_f gp_G q) + gp_turn a b q * (gp_f gp_G p - gp_f gp_G r) + gp_turn a b r * (gp_f gp_G q - gp_f gp_G p) := by
    unfold gp_f gp_G gp_turn; dsimp only; grind
  rw [h1, h2, h3, Int.zero_mul, Int.zero_mul, Int.zero_mul] at e
  rcases gp_mzero.mp e with w | w
  · omega
  · exact w
/-- the side of a pair, counted along the chains -/
noncomputable def gp_dd (c : Prop) : Int := @ite Int c (Classical.propDecidable c) 1 0
theorem gp_dd_t {c : Prop} (h : c) : gp_dd c = 1 := by unfold gp_dd; exact if_pos h
theorem gp_dd_f {c : Prop} (h : ¬ c) : gp_dd c = 0 := by unfold gp_dd; exact if_neg h
section
variable {p : Nat → Int × Int} {n : Nat}
/-- one chain's part of the sum over pairs -/
theorem gp_chain_sum (st : Nat → Int × Int) (k : Nat) (hm : ∀ j, j < k → ∃ i, i < n ∧ p i = st j) (val : Int × Int → Int × Int → Int) :
    gp_sm (fun i => gp_sm (fun l => gp_sm (fun j => gp_dd (gp_fst p i ∧ gp_fst p l ∧ p i = st j ∧ p l = st (j + 1)) * val (p i) (p l)) (k - 1)) n) n = gp_sm (fun j => val (st j) (st (j + 1))) (k - 1) := by
  have s1 : ∀ i, gp_sm (fun l => gp_sm (fun j => gp_dd (gp_fst p i ∧ gp_fst p l ∧ p i = st j ∧ p l = st (j + 1)) * val (p i) (p l)) (k - 1)) n = gp_sm (fun j => gp_sm (fun l => gp_dd (gp_fst p i ∧ gp_fst p l ∧ p i = st j ∧ p l = st (j + 1)) * val (p i) (p l)) n) (k - 1) :=
    fun i => gp_sm_swap (fun l j => gp_dd (gp_fst p i ∧ gp_fst p l ∧ p i = st j ∧ p l = st (j + 1)) * val (p i) (p l)) n (k - 1)
  rw [gp_sm_congr fun i _ => s1 i, gp_sm_swap (fun i j => gp_sm (fun l => gp_dd (gp_fst p i ∧ gp_fst p l ∧ p i = st j ∧ p l = st (j + 1)) * val (p i) (p l)) n)]
  refine gp_sm_congr fun j hj => ?_
  obtain ⟨a, ha, ea, fa⟩ := gp_first_ex p (st j) n (hm j (by omega))
  obtain ⟨b, hb, eb, fb⟩ := gp_first_ex p (st (j + 1)) n (hm (j + 1) (by omega))
  rw [gp_sm_one ha (fun i hi ne => gp_sm_zero fun l _ => by
    rw [gp_dd_f (fun z => ne (gp_fst_uni z.1 fa (z.2.2.1.trans ea.symm))), Int.zero_mul])]
  rw [gp_sm_one hb (fun l hl ne => by
    rw [gp_dd_f (fun z => ne (gp_fst_uni z.2.1 fb (z.2.2.2.trans eb.symm))), Int.zero_mul])]
  rw [gp_dd_t ⟨fa, fb, ea, eb⟩, ea, eb, Int.one_mul]
theorem gp_tel_cr (o : Int × Int) (st : Nat → Int × Int) (k : Nat) : gp_sm (fun j => gp_turn (st j) (st (j + 1)) o) k = gp_sm (fun j => gp_cr (st j) (st (j + 1))) k + (gp_cr (st k) o - gp_cr (st 0) o) := by
  rw [← gp_sm_tel (fun j => gp_cr (st j) o), ← gp_sm_add]
  refine gp_sm_congr fun j _ => ?_
  unfold gp_turn gp_cr
  grind
theorem gp_hull (hn : 1 ≤ n) (hin : ∀ i, i < n → gp_in (p i)) (od : Nat → Nat) (ho : ∀ j, j < n → od j < n) (hs : ∀ i, i < n → ∃ j, j < n ∧ od j = i)
    (srt : ∀ i j, i ≤ j → j < n → gp_f gp_G (p (od i)) ≤ gp_f gp_G (p (od j))) {L U : Nat → Int × Int} {k1 k2 : Nat}
    (hL : gp_St gp_G (fun i => p (od i)) n L k1) (hU : gp_St gp_G' (fun i => p (od (n - 1 - i))) n U k2) :
    ((∀ i l, i < n → l < n → ¬ gp_hsd p n i l) ∧ gp_sm (fun j => gp_cr (L j) (L (j + 1))) (k1 - 1) + gp_sm (fun j => gp_cr (U j) (U (j + 1))) (k2 - 1) = 0) ∨
    (0 < gp_sm (fun j => gp_cr (L j) (L (j + 1))) (k1 - 1) + gp_sm (fun j => gp_cr (U j) (U (j + 1))) (k2 - 1) ∧ 2 ≤ k1 ∧
      ∀ val : Int × Int → Int × Int → Int, gp_sm (fun i => gp_sm (fun l => gp_dd (gp_hsd p n i l) * val (p i) (p l)) n) n = gp_sm (fun j => val (L j) (L (j + 1))) (k1 - 1) + gp_sm (fun j => val (U j) (U (j + 1))) (k2 - 1)) := by
  obtain ⟨l1, l2, l3, l4, l5⟩ := hL
  obtain ⟨u1, u2, u3, u4, u5⟩ := hU
  have tot : ∀ o, gp_sm (fun j => gp_cr (L j) (L (j + 1))) (k1 - 1) + gp_sm (fun j => gp_cr (U j) (U (j + 1))) (k2 - 1) = gp_sm (fun j => gp_turn (L j) (L (j + 1)) o) (k1 - 1) + gp_sm (fun j => gp_turn (U j) (U (j + 1)) o) (k2 - 1) := by
    intro o
    rw [gp_tel_cr, gp_tel_cr, l3, l4, u3, u4]
    dsimp only
    rw [show n - 1 - 0 = n - 1 by omega, show n - 1 - (n - 1) = 0 by omega]
    omega
  have memL : ∀ i, i < n → ∃ j, j < n ∧ p (od j) = p i := fun i hi => by
    obtain ⟨j, hj, e⟩ := hs i hi
    exact ⟨j, hj, by rw [e]⟩
  have memU : ∀ i, i < n → ∃ j, j < n ∧ p (od (n - 1 - j)) = p i := fun i hi => by
    obtain ⟨j, hj, e⟩ := hs i hi
    exact ⟨n - 1 - j, by omega, by rw [show n - 1 - (n - 1 - j) = j by omega, e]⟩
  by_cases flat : ∀ i j k, i < n → j < n → k < n → gp_turn (p i) (p j) (p k) = 0
  · left
    refine ⟨fun i l hi hl z => ?_, ?_⟩
    · obtain ⟨q, hq, t⟩ := z.2.2.2.2
      rw [flat i l q hi hl hq] at t
      omega
    · have ptL : ∀ j, j < k1 → ∃ i, i < n ∧ p i = L j := by
        intro j hj
        rcases l5 with ⟨e, k⟩ | ⟨_, c⟩
        · by_cases z : j = 0
          · exact ⟨od 0, ho 0 (by omega), by rw [z, l3]⟩
          · exact ⟨od (n - 1), ho (n - 1) (by omega), by rw [show j = k1 - 1 by omega, l4]⟩
        · obtain ⟨i, hi, e⟩ := c.2.2.2 j hj
          exact ⟨od i, ho i hi, e⟩
      have ptU : ∀ j, j < k2 → ∃ i, i < n ∧ p i = U j := by
        intro j hj
        rcases u5 with ⟨e, k⟩ | ⟨_, c⟩
        · by_cases z : j = 0
          · exact ⟨od (n - 1 - 0), ho _ (by omega), by rw [z, u3]⟩
          · exact ⟨od (n - 1 - (n - 1)), ho _ (by omega), by rw [show j = k2 - 1 by omega, u4]⟩
        · obtain ⟨i, hi, e⟩ := c.2.2.2 j hj
          exact ⟨od (n - 1 - i), ho _ (by omega), e⟩
      rw [tot (p 0), gp_sm_zero, gp_sm_zero]
      · rfl
      · intro j hj
        obtain ⟨a, ha, ea⟩ := ptU j (by omega)
        obtain ⟨b, hb, eb⟩ := ptU (j + 1) (by omega)
        rw [← ea, ← eb]
        exact flat a b 0 ha hb (by omega)
      · intro j hj
        obtain ⟨a, ha, ea⟩ := ptL j (by omega)
        obtain ⟨b, hb, eb⟩ := ptL (j + 1) (by omega)
        rw [← ea, ← eb]
        exact flat a b 0 ha hb (by omega)
  · right
    have nall : ∀ A : Int × Int, ¬ ∀ i, i < n → p i = A := by
      intro A h
      apply flat
      intro i j k hi hj hk
      rw [h i hi, h j hj, h k hk]
      unfold gp_turn; grind
    have cL : 2 ≤ k1 ∧ gp_Ch gp_G (fun i => p (od i)) n L k1 := by
      rcases l5 with ⟨e, _⟩ | h
      · exact absurd (fun i hi => by
          obtain ⟨j, hj, q⟩ := memL i hi
          rw [← q]; exact e j hj) (nall (p (od 0)))
      · exact h
    have cU : 2 ≤ k2 ∧ gp_Ch gp_G' (fun i => p (od (n - 1 - i))) n U k2 := by
      rcases u5 with ⟨e, _⟩ | h
      · exact absurd (fun i hi => by
          obtain ⟨j, hj, q⟩ := memU i hi
          rw [← q]; exact e j hj) (nall (p (od (n - 1 - 0))))
      · exact h
    have minL : ∀ i, i < n → gp_f gp_G (L 0) ≤ gp_f gp_G (p (od i)) := fun i hi => by rw [l3]; exact srt 0 i (by omega) hi
    have maxL : ∀ i, i < n → gp_f gp_G (p (od i)) ≤ gp_f gp_G (L (k1 - 1)) := fun i hi => by rw [l4]; exact srt i (n - 1) (by omega) (by omega)
    have minU : ∀ i, i < n → gp_f gp_G' (U 0) ≤ gp_f gp_G' (p (od (n - 1 - i))) := fun i hi => by
      rw [u3, gp_G_neg, gp_G_neg]; (try dsimp only); have := srt (n - 1 - i) (n - 1 - 0) (by omega) (by omega); omega
    have maxU : ∀ i, i < n → gp_f gp_G' (p (od (n - 1 - i))) ≤ gp_f gp_G' (U (k2 - 1)) := fun i hi => by
      rw [u4, gp_G_neg, gp_G_neg]; (try dsimp only); have := srt (n - 1 - (n - 1)) (n - 1 - i) (by omega) (by omega); omega
    have inL : ∀ i j, i < n → j < n → gp_f gp_G (p (od i)) = gp_f gp_G (p (od j)) → p (od i) = p (od j) := fun i j hi hj => gp_G_inj (hin _ (ho i hi)) (hin _ (ho j hj))
    have inU : ∀ i j, i < n → j < n → gp_f gp_G' (p (od (n - 1 - i))) = gp_f gp_G' (p (od (n - 1 - j))) → p (od (n - 1 - i)) = p (od (n - 1 - j)) := fun i j hi hj e => by
      rw [gp_G_neg, gp_G_neg] at e
      exact gp_G_inj (hin _ (ho _ (by omega))) (hin _ (ho _ (by omega))) (by omega)
    have strict : ∀ a b : Int × Int, gp_f gp_G a ≠ gp_f gp_G b → (∀ q, q < n → 0 ≤ gp_turn a b (p q)) → ∃ q, q < n ∧ 0 < gp_turn a b (p q) := by
      intro a b ne h
      by_cases c : ∃ q, q < n ∧ 0 < gp_turn a b (p q)
      · exact c
      · exfalso
        have z : ∀ q, q < n → gp_turn a b (p q) = 0 := fun q hq => by
          have := h q hq
          by_cases w : 0 < gp_turn a b (p q)
          · exact absurd ⟨q, hq, w⟩ c
          · omega
        exact flat fun i j k hi hj hk => gp_line ne (z i hi) (z j hj) (z k hk)
    have leftL : ∀ j, j + 1 < k1 → ∀ q, q < n → 0 ≤ gp_turn (L j) (L (j + 1)) (p q) := fun j hj q hq => by
      obtain ⟨i, hi, e⟩ := memL q hq
      rw [← e]; exact cL.2.2.2.1 i j hi hj
    have leftU : ∀ j, j + 1 < k2 → ∀ q, q < n → 0 ≤ gp_turn (U j) (U (j + 1)) (p q) := fun j hj q hq => by
      obtain ⟨i, hi, e⟩ := memU q hq
      rw [← e]; exact cU.2.2.2.1 i j hi hj
    have gL : ∀ j, j + 1 < k1 → gp_f gp_G (L j) < gp_f gp_G (L (j + 1)) := cL.2.1
    have gU : ∀ j, j + 1 < k2 → gp_f gp_G (U (j + 1)) < gp_f gp_G (U j) := fun j hj => by
      have := cU.2.1 j hj
      rw [gp_G_neg, gp_G_neg] at this
      omega
    have toL : ∀ i l j, i < n → l < n → gp_fst p i → gp_fst p l → j + 1 < k1 → p i = L j → p l = L (j + 1) → gp_hsd p n i l := by
      intro i l j hi hl fi fl hj ei el
      have g := gL j hj
      refine ⟨fun e => ?_, fi, fl, fun q hq => ⟨?_, fun t => ?_⟩, ?_⟩
      · rw [← ei, ← el, e] at g; omega
      · rw [ei, el]; exact leftL j hj q hq
      · rw [ei, el] at t ⊢
        rw [gp_os_G (by omega)]
        refine ⟨t, Or.inl ?_⟩
        obtain ⟨r, hr, e⟩ := memL q hq
        rw [← e] at t ⊢
        exact gp_Ch_btw cL.2 minL maxL hr hj t
      · rw [ei, el]
        exact strict _ _ (by omega) (leftL j hj)
    have toU : ∀ i l j, i < n → l < n → gp_fst p i → gp_fst p l → j + 1 < k2 → p i = U j → p l = U (j + 1) → gp_hsd p n i l := by
      intro i l j hi hl fi fl hj ei el
      have g := gU j hj
      refine ⟨fun e => ?_, fi, fl, fun q hq => ⟨?_, fun t => ?_⟩, ?_⟩
      · rw [← ei, ← el, e] at g; omega
      · rw [ei, el]; exact leftU j hj q hq
      · rw [ei, el] at t ⊢
        rw [gp_os_G (by omega)]
        refine ⟨t, Or.inr ?_⟩
        obtain ⟨r, hr, e⟩ := memU q hq
        rw [← e] at t ⊢
        have b := gp_Ch_btw cU.2 minU maxU hr hj t
        try dsimp only at b
        rw [gp_G_neg, gp_G_neg, gp_G_neg] at b
        omega
      · rw [ei, el]
        exact strict _ _ (by omega) (leftU j hj)
    have from_ : ∀ i l, i < n → l < n → gp_hsd p n i l → (∃ j, j + 1 < k1 ∧ p i = L j ∧ p l = L (j + 1)) ∨ (∃ j, j + 1 < k2 ∧ p i = U j ∧ p l = U (j + 1)) := by
      intro i l hi hl ⟨ne, fi, fl, h, _⟩
      have np : p i ≠ p l := fun e => ne (gp_fst_uni fi fl e)
      have ng : gp_f gp_G (p i) ≠ gp_f gp_G (p l) := fun e => np (gp_G_inj (hin i hi) (hin l hl) e)
      have os : ∀ q, q < n → gp_turn (p i) (p l) (p q) = 0 → _ := fun q hq t => ((gp_os_G ng).mp ((h q hq).2 t)).2
      rcases Int.lt_or_gt_of_ne ng with c | c
      · left
        obtain ⟨a, ha, ea⟩ := memL i hi
        obtain ⟨b, hb, eb⟩ := memL l hl
        obtain ⟨j, hj, e1, e2⟩ := gp_Ch_all inL cL.2 cL.1 minL maxL ha hb (by (try dsimp only); rw [ea, eb]; exact c)
          (fun q hq => by (try dsimp only); rw [ea, eb]; exact (h _ (ho q hq)).1)
          (fun q hq t => by
            try dsimp only at t ⊢
            rw [ea, eb] at t ⊢
            have := os _ (ho q hq) t
            omega)
        try dsimp only at e1 e2
        exact ⟨j, hj, by rw [e1, ea], by rw [e2, eb]⟩
      · right
        obtain ⟨a, ha, ea⟩ := memU i hi
        obtain ⟨b, hb, eb⟩ := memU l hl
        obtain ⟨j, hj, e1, e2⟩ := gp_Ch_all inU cU.2 cU.1 minU maxU ha hb (by (try dsimp only); rw [ea, eb, gp_G_neg, gp_G_neg]; omega)
          (fun q hq => by (try dsimp only); rw [ea, eb]; exact (h _ (ho _ (by omega))).1)
          (fun q hq t => by
            try dsimp only at t ⊢
            rw [ea, eb] at t ⊢
            have := os _ (ho _ (by omega)) t
            rw [gp_G_neg, gp_G_neg, gp_G_neg]
            omega)
        try dsimp only at e1 e2
        exact ⟨j, hj, by rw [e1, ea], by rw [e2, eb]⟩
    have monoL : ∀ d j, j + d < k1 → gp_f gp_G (L j) + d ≤ gp_f gp_G (L (j + d)) := by
      intro d
      induction d with
      | zero => intro j hj; simp
      | succ d ih =>
        intro j hj
        have a := ih j (by omega)
        have b := gL (j + d) (by omega)
        rw [show j + d + 1 = j + (d + 1) by omega] at b
        omega
    have monoU : ∀ d j, j + d < k2 → gp_f gp_G (U (j + d)) + d ≤ gp_f gp_G (U j) := by
      intro d
      induction d with
      | zero => intro j hj; simp
      | succ d ih =>
        intro j hj
        have a := ih j (by omega)
        have b := gU (j + d) (by omega)
        rw [show j + d + 1 = j + (d + 1) by omega] at b
        omega
    have injL : ∀ a b, a < k1 → b < k1 → L a = L b → a = b := by
      intro a b ha hb e
      rcases Nat.lt_trichotomy a b with c | c | c
      · have := monoL (b - a) a (by omega)
        rw [show a + (b - a) = b by omega, e] at this; omega
      · exact c
      · have := monoL (a - b) b (by omega)
        rw [show b + (a - b) = a by omega, e] at this; omega
    have injU : ∀ a b, a < k2 → b < k2 → U a = U b → a = b := by
      intro a b ha hb e
      rcases Nat.lt_trichotomy a b with c | c | c
      · have := monoU (b - a) a (by omega)
        rw [show a + (b - a) = b by omega, e] at this; omega
      · exact c
      · have := monoU (a - b) b (by omega)
        rw [show b + (a - b) = a by omega, e] at this; omega
    refine ⟨?_, cL.1, fun val => ?_⟩
    · obtain ⟨q, hq, t⟩ := strict (L 0) (L (0 + 1)) (by have := gL 0 (by have := cL.1; omega); omega) (leftL 0 (by have := cL.1; omega))
      rw [tot (p q)]
      have a := gp_sm_ge (f := fun j => gp_turn (L j) (L (j + 1)) (p q)) (n := k1 - 1) (k := 0) (by have := cL.1; omega) (fun j hj => leftL j (by omega) q hq)
      have b := gp_sm_nn (f := fun j => gp_turn (U j) (U (j + 1)) (p q)) (n := k2 - 1) (fun j hj => leftU j (by omega) q hq)
      try dsimp only at a
      omega
    · rw [← gp_chain_sum (p := p) (n := n) L k1 (fun j hj => by
        obtain ⟨i, hi, e⟩ := cL.2.2.2.2 j hj
        exact ⟨od i, ho i hi, e⟩) val]
      rw [← gp_chain_sum (p := p) (n := n) U k2 (fun j hj => by
        obtain ⟨i, hi, e⟩ := cU.2.2.2.2 j hj
        exact ⟨od (n - 1 - i), ho _ (by omega), e⟩) val]
      rw [← gp_sm_add]
      refine gp_sm_congr fun i hi => ?_
      rw [← gp_sm_add]
      refine gp_sm_congr fun l hl => ?_
      by_cases c : gp_hsd p n i l
      · rw [gp_dd_t c, Int.one_mul]
        have fi := c.2.1
        have fl := c.2.2.1
        rcases from_ i l hi hl c with ⟨j, hj, e1, e2⟩ | ⟨j, hj, e1, e2⟩
        · rw [gp_sm_one (k := j) (by omega) (fun t ht ne => by
            rw [gp_dd_f (fun z => ne (injL t j (by omega) (by omega) (z.2.2.1.symm.trans e1))), Int.zero_mul]), gp_dd_t ⟨fi, fl, e1, e2⟩, Int.one_mul]
          rw [gp_sm_zero (fun t ht => by
            rw [gp_dd_f (fun z => by
              have g1 := gL j hj
              have g2 := gU t (by omega)
              rw [← z.2.2.1, ← z.2.2.2] at g2
              rw [← e1, ← e2] at g1
              omega), Int.zero_mul])]
          omega
        · rw [gp_sm_zero (fun t ht => by
            rw [gp_dd_f (fun z => by
              have g1 := gL t (by omega)
              have g2 := gU j hj
              rw [← z.2.2.1, ← z.2.2.2] at g1
              rw [← e1, ← e2] at g2
              omega), Int.zero_mul])]
          rw [gp_sm_one (k := j) (by omega) (fun t ht ne => by
            rw [gp_dd_f (fun z => ne (injU t j (by omega) (by omega) (z.2.2.1.symm.trans e1))), Int.zero_mul]), gp_dd_t ⟨fi, fl, e1, e2⟩, Int.one_mul]
          omega
      · rw [gp_dd_f c, Int.zero_mul, gp_sm_zero (fun t ht => by
          rw [gp_dd_f (fun z => c (toL i l t hi hl z.1 z.2.1 (by omega) z.2.2.1 z.2.2.2)), Int.zero_mul]), gp_sm_zero (fun t ht => by
          rw [gp_dd_f (fun z => c (toU i l t hi hl z.1 z.2.1 (by omega) z.2.2.1 z.2.2.2)), Int.zero_mul])]
        rfl
end
end
section
/-! rows of kit/rows (starting text) -/
theorem pk_us {f : Nat → Int32} {k : Nat} {x : Int32} : upd f k x k = x := if_pos rfl
theorem pk_un {f : Nat → Int32} {k j : Nat} {x : Int32} (h : j ≠ k) : upd f k x j = f j := if_neg h
theorem pk_sub {a b : Nat} (h : b ≤ a) : nI a - nI b = nI (a - b) := by
  obtain ⟨c, rfl⟩ : ∃ c, a = c + b := ⟨a - b, by omega⟩
  rw [← nI_add, Int32.add_sub_cancel, Nat.add_sub_cancel]
theorem pk_m1 (n : Nat) : nI (n + 1) + (-1) = nI n := by
  rw [← nI_1, Int32.add_assoc, show (1 : Int32) + (-1) = 0 from rfl, Int32.add_zero]
theorem pk_mul (a b : Nat) : nI a * nI b = nI (a * b) := (Int32.ofNat_mul a b).symm
theorem pk_div {a d : Nat} (ha : a < 2 ^ 31) (h0 : 0 < d) (hd : d < 2 ^ 31) : nI a / nI d = nI (a / d) := by
  apply Int32.toInt_inj.mp
  rw [lg_idiv_nonneg (by rw [nI_toInt ha]; omega) (by rw [nI_toInt hd]; omega), nI_toInt ha, nI_toInt hd, nI_toInt (Nat.lt_of_le_of_lt (Nat.div_le_self a d) ha)]
  first | rfl | exact (Int.natCast_ediv _ _).symm
theorem pk_rem {a d : Nat} (ha : a < 2 ^ 31) (h0 : 0 < d) (hd : d < 2 ^ 31) : nI a - nI a / nI d * nI d = nI (a % d) := by
  rw [pk_div ha h0 hd, pk_mul, pk_sub (Nat.div_mul_le_self a d)]
  exact congrArg nI (by have := Nat.div_add_mod' a d; omega)
theorem pk_ix (x : Int32) {n : Nat} (hn : n < 2 ^ 31) : x < 0 ∨ nI n ≤ x ∨ ∃ j : Nat, j < n ∧ x = nI j := by
  by_cases h : x < 0
  · exact Or.inl h
  · obtain ⟨j, hj, rfl⟩ := nI_of h
    by_cases h2 : j < n
    · exact Or.inr (Or.inr ⟨j, h2, rfl⟩)
    · exact Or.inr (Or.inl (nI_le (by omega) hj))
theorem pk_tn {n : Nat} (h : n < 2 ^ 32) : (nI n).toBitVec.toNat = n := Nat.mod_eq_of_lt h
theorem pk_and (x : Int32) {m : Int32} (k : Nat) (hm : m.toBitVec.toNat = 2 ^ k - 1) : x &&& m = nI (x.toBitVec.toNat % 2 ^ k) := by
  apply Int32.toBitVec_inj.mp
  apply BitVec.eq_of_toNat_eq
  rw [Int32.toBitVec_and, BitVec.toNat_and, hm, Nat.and_two_pow_sub_one_eq_mod]
  show _ = (BitVec.ofNat 32 _).toNat
  rw [BitVec.toNat_ofNat]
  exact (Nat.mod_eq_of_lt (Nat.lt_of_le_of_lt (Nat.mod_le _ _) x.toBitVec.isLt)).symm
theorem pk_andN {n : Nat} (h : n < 2 ^ 32) {m : Int32} (k : Nat) (hm : m.toBitVec.toNat = 2 ^ k - 1) : nI n &&& m = nI (n % 2 ^ k) := by
  rw [pk_and _ k hm, pk_tn h]
theorem pk_shr (a s : Int32) (k : Nat) (hs : (s.toBitVec.smod 32).toNat = k) : (a >>> s).toInt = a.toInt >>> k := by
  show (a.toBitVec.sshiftRight (s.toBitVec.smod 32).toNat).toInt = _
  rw [hs, BitVec.toInt_sshiftRight]
  rfl
theorem pk_shrN {n : Nat} (h : n < 2 ^ 31) (s : Int32) (k : Nat) (hs : (s.toBitVec.smod 32).toNat = k) : nI n >>> s = nI (n / 2 ^ k) := by
  apply Int32.toInt_inj.mp
  have h2 : n / 2 ^ k ≤ n := Nat.div_le_self _ _
  rw [pk_shr _ _ k hs, nI_toInt h, nI_toInt (by omega), Int.shiftRight_eq_div_pow]
  rfl
end
section
/-! numbers of the programs, and the corners' coordinates -/
def gp_I (z : Int) : Int32 := Int32.ofInt z
def gp_rg (z : Int) : Prop := -2147483648 ≤ z ∧ z < 2147483648
theorem gp_nI (n : Nat) : nI n = gp_I (n : Int) := (Int32.ofInt_eq_ofNat).symm
theorem gp_I_add (a b : Int) : gp_I (a + b) = gp_I a + gp_I b := Int32.ofInt_add a b
theorem gp_I_sub (a b : Int) : gp_I (a - b) = gp_I a - gp_I b := Int32.ofInt_sub a b
theorem gp_I_mul (a b : Int) : gp_I (a * b) = gp_I a * gp_I b := Int32.ofInt_mul a b
theorem gp_I_neg (a : Int) : gp_I (-a) = - gp_I a := Int32.ofInt_neg a
theorem gp_I_t {a : Int} (h : gp_rg a) : (gp_I a).toInt = a := Int32.toInt_ofInt_of_le h.1 h.2
theorem gp_I_lt {a b : Int} (ha : gp_rg a) (hb : gp_rg b) : gp_I a < gp_I b ↔ a < b := by rw [Int32.lt_iff_toInt_lt, gp_I_t ha, gp_I_t hb]
theorem gp_I_le {a b : Int} (ha : gp_rg a) (hb : gp_rg b) : gp_I a ≤ gp_I b ↔ a ≤ b := by rw [Int32.le_iff_toInt_le, gp_I_t ha, gp_I_t hb]
theorem gp_I_eq {a b : Int} (ha : gp_rg a) (hb : gp_rg b) : gp_I a = gp_I b ↔ a = b := by rw [← Int32.toInt_inj, gp_I_t ha, gp_I_t hb]
theorem gp_I_0 : (0 : Int32) = gp_I 0 := rfl
theorem gp_I_1 : (1 : Int32) = gp_I 1 := rfl
theorem gp_I_2 : (2 : Int32) = gp_I 2 := rfl
theorem gp_I_m1 : (-1 : Int32) = gp_I (-1) := rfl
/-- branches by integers -/
theorem gp_blt {x y : Int32} {A B : Prop} (a b : Int) (hx : x = gp_I a) (hy : y = gp_I b) (ha : gp_rg a) (hb : gp_rg b) (f : a < b → A) (g : ¬ a < b → B) : (x < y → A) ∧ (¬ x < y → B) := by
  subst hx; subst hy
  rw [gp_I_lt ha hb]; exact ⟨f, g⟩
theorem gp_ble {x y : Int32} {A B : Prop} (a b : Int) (hx : x = gp_I a) (hy : y = gp_I b) (ha : gp_rg a) (hb : gp_rg b) (f : a ≤ b → A) (g : ¬ a ≤ b → B) : (x ≤ y → A) ∧ (¬ x ≤ y → B) := by
  subst hx; subst hy
  rw [gp_I_le ha hb]; exact ⟨f, g⟩
theorem gp_beq {x y : Int32} {A B : Prop} (a b : Int) (hx : x = gp_I a) (hy : y = gp_I b) (ha : gp_rg a) (hb : gp_rg b) (f : a = b → A) (g : ¬ a = b → B) : (x = y → A) ∧ (¬ x = y → B) := by
  subst hx; subst hy
  rw [gp_I_eq ha hb]; exact ⟨f, g⟩
/-- truth values -/
noncomputable def gp_b (c : Prop) : Int32 := @ite Int32 c (Classical.propDecidable c) 1 0
theorem gp_b_t {c : Prop} (h : c) : gp_b c = 1 := by unfold gp_b; exact if_pos h
theorem gp_b_f {c : Prop} (h : ¬ c) : gp_b c = 0 := by unfold gp_b; exact if_neg h
theorem gp_b_c {c d : Prop} (h : c ↔ d) : gp_b c = gp_b d := by rw [propext h]
theorem gp_bb {c A B : Prop} (f : ¬ c → A) (g : c → B) : (gp_b c = 0 → A) ∧ (¬ gp_b c = 0 → B) := by
  by_cases h : c
  · rw [gp_b_t h]; exact ⟨fun z => absurd z (by decide), fun _ => g h⟩
  · rw [gp_b_f h]; exact ⟨fun _ => f h, fun z => absurd rfl z⟩
theorem gp_b_n (c : Prop) : narrow .boolean (.int (gp_b c)) = .int (gp_b c) := by
  by_cases h : c
  · rw [gp_b_t h]; rfl
  · rw [gp_b_f h]; rfl
theorem gp_pt {c : Prop} {post : Int32 → Prop} (hp : post (gp_b c)) (h : c) : post 1 := by rw [gp_b_t h] at hp; exact hp
theorem gp_pf {c : Prop} {post : Int32 → Prop} (hp : post (gp_b c)) (h : ¬ c) : post 0 := by rw [gp_b_f h] at hp; exact hp
theorem gp_one_ne : ¬ (1 : Int32) = 0 := by decide
/-- the corners -/
def gp_at (n : Nat) (P : Nat → Int × Int) (xs ys : Nat → Int32) : Prop := n ≤ 10 ∧ ∀ i, i < n → xs i = gp_I (P i).1 ∧ ys i = gp_I (P i).2 ∧ 0 ≤ (P i).1 ∧ (P i).1 < 16 ∧ 0 ≤ (P i).2 ∧ (P i).2 < 16
theorem gp_cl {i : Nat} (h : i < 2000) : (nI i).toNatClampNeg = i := nI_clamp (by omega)
section
variable {n : Nat} {P : Nat → Int × Int} {fw : Int32} {xs ys ln wy od wr : Nat → Int32}
theorem gp_rx (h : gp_at n P xs ys) {i : Nat} (hi : i < n) : xs (nI i).toNatClampNeg = gp_I (P i).1 := by
  rw [gp_cl (by have := h.1; omega)]; exact (h.2 i hi).1
theorem gp_ry (h : gp_at n P xs ys) {i : Nat} (hi : i < n) : ys (nI i).toNatClampNeg = gp_I (P i).2 := by
  rw [gp_cl (by have := h.1; omega)]; exact (h.2 i hi).2.1
theorem gp_rb (h : gp_at n P xs ys) {i : Nat} (hi : i < n) : 0 ≤ (P i).1 ∧ (P i).1 < 16 ∧ 0 ≤ (P i).2 ∧ (P i).2 < 16 := (h.2 i hi).2.2
theorem gp_vi (h : gp_at n P xs ys) {i : Nat} (hi : i < n) : vp_in (nI i) 10 := vp_in_nI (by have := h.1; omega) (by omega)
end
/-- sizes of turns -/
theorem gp_mulb {a b : Int} (ha : -64 ≤ a ∧ a ≤ 64) (hb : -64 ≤ b ∧ b ≤ 64) : -4096 ≤ a * b ∧ a * b ≤ 4096 := by
  have h1 := Int.mul_nonneg (show 0 ≤ a + 64 by omega) (show 0 ≤ b + 64 by omega)
  have h2 := Int.mul_nonneg (show 0 ≤ 64 - a by omega) (show 0 ≤ 64 - b by omega)
  have h3 := Int.mul_nonneg (show 0 ≤ a + 64 by omega) (show 0 ≤ 64 - b by omega)
  have h4 := Int.mul_nonneg (show 0 ≤ 64 - a by omega) (show 0 ≤ b + 64 by omega)
  rw [Int.add_mul, Int.mul_add, Int.mul_add] at h1
  rw [Int.sub_mul, Int.mul_sub, Int.mul_sub] at h2
  rw [Int.add_mul, Int.mul_sub, Int.mul_sub] at h3
  rw [Int.sub_mul, Int.mul_add, Int.mul_add] at h4
  omega
def gp_sm6 (p : Int × Int) : Prop := 0 ≤ p.1 ∧ p.1 < 32 ∧ 0 ≤ p.2 ∧ p.2 < 32
theorem gp_turn_r {a b c : Int × Int} (ha : gp_in a) (hb : gp_in b) (hc : gp_in c) : -8192 ≤ gp_turn a b c ∧ gp_turn a b c ≤ 8192 := by
  unfold gp_in at *
  unfold gp_turn
  have := gp_mulb (a := b.1 - a.1) (b := c.2 - a.2) (by omega) (by omega)
  have := gp_mulb (a := b.2 - a.2) (b := c.1 - a.1) (by omega) (by omega)
  omega
theorem gp_turn_g {a b c : Int × Int} (ha : gp_in a) (hb : gp_in b) (hc : gp_in c) : gp_rg (gp_turn a b c) := by
  have := gp_turn_r ha hb hc
  unfold gp_rg; omega
theorem gp_rg_s {a : Int} (h : -100000 ≤ a ∧ a ≤ 100000) : gp_rg a := by unfold gp_rg; omega
section
variable {n : Nat} {P : Nat → Int × Int} {fw : Int32} {xs ys ln wy od wr : Nat → Int32}
theorem gp_ri (h : gp_at n P xs ys) {i : Nat} (hi : i < n) : gp_in (P i) := by
  have := gp_rb h hi; unfold gp_in; omega
theorem gp_rr (h : gp_at n P xs ys) {i : Nat} (hi : i < n) : gp_rg (P i).1 ∧ gp_rg (P i).2 := by
  have := gp_rb h hi; unfold gp_rg; omega
/-! X: turns, lines -/
theorem gx_turn (p0 p1 p2 p3 p4 p5 : Int) {post : Int32 → Prop} (hp : post (gp_I (gp_turn (p0, p1) (p2, p3) (p4, p5)))) :
    wpX_turn post (nI n, fw, xs, ys, ln, wy, od, wr) (gp_I p0) (gp_I p1) (gp_I p2) (gp_I p3) (gp_I p4) (gp_I p5) := by
  unfold wpX_turn
  simp only [← gp_I_sub, ← gp_I_mul]
  exact hp
theorem gx_turnOf (h : gp_at n P xs ys) {i j k : Nat} (hi : i < n) (hj : j < n) (hk : k < n) {post : Int32 → Prop} (hp : post (gp_I (gp_turn (P i) (P j) (P k)))) :
    wpX_turnOf post (nI n, fw, xs, ys, ln, wy, od, wr) (nI i) (nI j) (nI k) := by
  unfold wpX_turnOf
  refine ⟨gp_vi h hi, gp_vi h hi, gp_vi h hj, gp_vi h hj, gp_vi h hk, gp_vi h hk, ?_⟩
  rw [gp_rx h hi, gp_rx h hj, gp_rx h hk, gp_ry h hi, gp_ry h hj, gp_ry h hk]
  exact gx_turn _ _ _ _ _ _ hp
theorem gx_between (v a b : Int) (hv : gp_rg v) (ha : gp_rg a) (hb : gp_rg b) {post : Int32 → Prop} (hp : post (gp_b (gp_bt v a b))) :
    wpX_between post (nI n, fw, xs, ys, ln, wy, od, wr) (gp_I v) (gp_I a) (gp_I b) := by
  unfold wpX_between
  refine gp_ble b a rfl rfl hb ha (fun c1 => ?_) (fun c1 => ?_)
  · refine gp_blt v b rfl rfl hv hb (fun c2 => gp_pf hp (by unfold gp_bt; omega)) (fun c2 => ?_)
    exact gp_blt a v rfl rfl ha hv (fun c3 => gp_pf hp (by unfold gp_bt; omega)) (fun c3 => gp_pt hp (by unfold gp_bt; omega))
  · refine gp_blt v a rfl rfl hv ha (fun c2 => gp_pf hp (by unfold gp_bt; omega)) (fun c2 => ?_)
    exact gp_blt b v rfl rfl hb hv (fun c3 => gp_pf hp (by unfold gp_bt; omega)) (fun c3 => gp_pt hp (by unfold gp_bt; omega))
theorem gx_within (h : gp_at n P xs ys) (x y : Int) (hx : gp_rg x) (hy : gp_rg y) {i j : Nat} (hi : i < n) (hj : j < n) {post : Int32 → Prop} (hp : post (gp_b (gp_bt x (P i).1 (P j).1 ∧ gp_bt y (P i).2 (P j).2))) :
    wpX_within post (nI n, fw, xs, ys, ln, wy, od, wr) (gp_I x) (gp_I y) (nI i) (nI j) := by
  unfold wpX_within
  refine ⟨gp_vi h hi, gp_vi h hj, ?_⟩
  rw [gp_rx h hi, gp_rx h hj]
  refine gx_between _ _ _ hx (gp_rr h hi).1 (gp_rr h hj).1 (gp_bb (fun c => gp_pf hp (fun z => c z.1)) (fun c => ⟨gp_vi h hi, gp_vi h hj, ?_⟩))
  rw [gp_ry h hi, gp_ry h hj]
  exact gx_between _ _ _ hy (gp_rr h hi).2 (gp_rr h hj).2 (gp_bb (fun d => gp_pf hp (fun z => d z.2)) (fun d => gp_pt hp ⟨c, d⟩))
theorem gx_onLine (h : gp_at n P xs ys) (p : Int × Int) (hpi : gp_in p) {i j : Nat} (hi : i < n) (hj : j < n) {post : Int32 → Prop} (hp : post (gp_b (gp_os p (P i) (P j)))) :
    wpX_onLine post (nI n, fw, xs, ys, ln, wy, od, wr) (gp_I p.1) (gp_I p.2) (nI i) (nI j) := by
  unfold wpX_onLine
  refine ⟨gp_vi h hi, gp_vi h hi, gp_vi h hj, gp_vi h hj, ?_⟩
  rw [gp_rx h hi, gp_rx h hj, gp_ry h hi, gp_ry h hj]
  refine gx_turn _ _ _ _ _ _ ?_
  have rp : gp_rg p.1 ∧ gp_rg p.2 := by unfold gp_in at hpi; unfold gp_rg; omega
  refine gp_beq _ 0 rfl rfl (gp_turn_g (gp_ri h hi) (gp_ri h hj) hpi) (gp_rg_s (by omega)) (fun c => ?_) (fun c => gp_pf hp (fun z => c z.1))
  exact gx_within h _ _ rp.1 rp.2 hi hj (gp_bb (fun d => gp_pf hp (fun z => d z.2)) (fun d => gp_pt hp ⟨c, d⟩))
theorem gx_signOf (v : Int) (hv : gp_rg v) {post : Int32 → Prop} (hp : post (gp_I v.sign)) : wpX_signOf post (nI n, fw, xs, ys, ln, wy, od, wr) (gp_I v) := by
  unfold wpX_signOf
  refine gp_beq v 0 rfl rfl hv (gp_rg_s (by omega)) (fun c => ?_) (fun c => ?_)
  · rw [c] at hp; exact hp
  · refine gp_ble 0 v rfl rfl (gp_rg_s (by omega)) hv (fun d => ?_) (fun d => ?_)
    · rw [Int.sign_eq_one_of_pos (by omega)] at hp; exact hp
    · rw [Int.sign_eq_neg_one_of_neg (by omega)] at hp; exact hp
end
theorem gp_sign_cases (v : Int) : (v.sign = 1 ∧ 0 < v) ∨ (v.sign = 0 ∧ v = 0) ∨ (v.sign = -1 ∧ v < 0) := by
  rcases Int.lt_trichotomy v 0 with c | c | c
  · exact Or.inr (Or.inr ⟨Int.sign_eq_neg_one_of_neg c, c⟩)
  · exact Or.inr (Or.inl ⟨by rw [c]; rfl, c⟩)
  · exact Or.inl ⟨Int.sign_eq_one_of_pos c, c⟩
theorem gp_sign_mul (a b : Int) : -1 ≤ a.sign * b.sign ∧ a.sign * b.sign ≤ 1 ∧ (a.sign * b.sign < 0 ↔ a * b < 0) := by
  have s := gp_sgn a b
  rcases gp_sign_cases a with ⟨e, h⟩ | ⟨e, h⟩ | ⟨e, h⟩ <;> rcases gp_sign_cases b with ⟨f, g⟩ | ⟨f, g⟩ | ⟨f, g⟩ <;> rw [e, f] <;> omega
section
variable {n : Nat} {P : Nat → Int × Int} {fw : Int32} {xs ys ln wy od wr : Nat → Int32}
theorem gx_meet (h : gp_at n P xs ys) {i j k l : Nat} (hi : i < n) (hj : j < n) (hk : k < n) (hl : l < n) {post : Int32 → Prop} (hp : post (gp_b (gp_meet (P i) (P j) (P k) (P l)))) :
    wpX_meet post (nI n, fw, xs, ys, ln, wy, od, wr) (nI i) (nI j) (nI k) (nI l) := by
  unfold wpX_meet
  have g1 := gp_turn_g (gp_ri h hi) (gp_ri h hj) (gp_ri h hk)
  have g2 := gp_turn_g (gp_ri h hi) (gp_ri h hj) (gp_ri h hl)
  have g3 := gp_turn_g (gp_ri h hk) (gp_ri h hl) (gp_ri h hi)
  have g4 := gp_turn_g (gp_ri h hk) (gp_ri h hl) (gp_ri h hj)
  refine gx_turnOf h hi hj hk (gx_signOf _ g1 (gx_turnOf h hi hj hl (gx_signOf _ g2 (gx_turnOf h hk hl hi (gx_signOf _ g3 (gx_turnOf h hk hl hj (gx_signOf _ g4 ?_)))))))
  have m1 := gp_sign_mul (gp_turn (P i) (P j) (P k)) (gp_turn (P i) (P j) (P l))
  have m2 := gp_sign_mul (gp_turn (P k) (P l) (P i)) (gp_turn (P k) (P l) (P j))
  have z : ∀ v : Int, v.sign = 0 ↔ v = 0 := fun v => Int.sign_eq_zero_iff_zero
  have rs : ∀ v : Int, gp_rg v.sign := fun v => by rcases gp_sign_cases v with ⟨e, _⟩ | ⟨e, _⟩ | ⟨e, _⟩ <;> rw [e] <;> exact gp_rg_s (by omega)
  have r0 : gp_rg 0 := gp_rg_s (by omega)
  have tail : ¬ (gp_turn (P i) (P j) (P k) * gp_turn (P i) (P j) (P l) < 0 ∧ gp_turn (P k) (P l) (P i) * gp_turn (P k) (P l) (P j) < 0) →
      wX_meet_73 post (nI i) (nI j) (nI k) (nI l) (gp_I (gp_turn (P i) (P j) (P k)).sign) (gp_I (gp_turn (P i) (P j) (P l)).sign) (gp_I (gp_turn (P k) (P l) (P i)).sign) (gp_I (gp_turn (P k) (P l) (P j)).sign) (nI n) fw xs ys ln wy od wr := by
    intro nc
    have w166 : ¬ gp_os (P k) (P i) (P j) → ¬ gp_os (P l) (P i) (P j) → ¬ gp_os (P i) (P k) (P l) → wX_meet_166 post (nI j) (nI k) (nI l) (gp_I (gp_turn (P k) (P l) (P j)).sign) (nI n) fw xs ys ln wy od wr := by
      intro o1 o2 o3
      unfold wX_meet_166
      refine gp_beq _ 0 rfl rfl (rs _) r0 (fun c => ⟨gp_vi h hj, gp_vi h hj, ?_⟩) (fun c => gp_pf hp ?_)
      · rw [gp_rx h hj, gp_ry h hj]
        refine gx_within h _ _ (gp_rr h hj).1 (gp_rr h hj).2 hk hl (gp_bb (fun d => gp_pf hp ?_) (fun d => gp_pt hp (Or.inr (Or.inr (Or.inr (Or.inr ⟨(z _).mp c, d⟩))))))
        rintro (q | q | q | q | q)
        · exact nc q
        · exact o1 q
        · exact o2 q
        · exact o3 q
        · exact d q.2
      · rintro (q | q | q | q | q)
        · exact nc q
        · exact o1 q
        · exact o2 q
        · exact o3 q
        · exact c ((z _).mpr q.1)
    have w132f : ¬ gp_os (P k) (P i) (P j) → ¬ gp_os (P l) (P i) (P j) → wX_meet_131 post (nI i) (nI j) (nI k) (nI l) (gp_I (gp_turn (P k) (P l) (P i)).sign) (gp_I (gp_turn (P k) (P l) (P j)).sign) (nI n) fw xs ys ln wy od wr := by
      intro o1 o2
      unfold wX_meet_131 wX_meet_132
      refine br_t rfl ?_
      refine gp_beq _ 0 rfl rfl (rs _) r0 (fun c => ⟨gp_vi h hi, gp_vi h hi, ?_⟩) (fun c => w166 o1 o2 (fun q => c ((z _).mpr q.1)))
      rw [gp_rx h hi, gp_ry h hi]
      exact gx_within h _ _ (gp_rr h hi).1 (gp_rr h hi).2 hk hl (gp_bb (fun d => w166 o1 o2 (fun q => d q.2)) (fun d => gp_pt hp (Or.inr (Or.inr (Or.inr (Or.inl ⟨(z _).mp c, d⟩))))))
    have w127 : gp_os (P k) (P i) (P j) ∨ gp_os (P l) (P i) (P j) → wX_meet_127 post (nI i) (nI j) (nI k) (nI l) (gp_I (gp_turn (P k) (P l) (P i)).sign) (gp_I (gp_turn (P k) (P l) (P j)).sign) (nI n) fw xs ys ln wy od wr := by
      intro o
      unfold wX_meet_127 wX_meet_132
      exact br_f gp_one_ne (gp_pt hp (o.elim (fun q => Or.inr (Or.inl q)) (fun q => Or.inr (Or.inr (Or.inl q)))))
    have w99 : ¬ gp_os (P k) (P i) (P j) → wX_meet_99 post (nI i) (nI j) (nI k) (nI l) (gp_I (gp_turn (P i) (P j) (P l)).sign) (gp_I (gp_turn (P k) (P l) (P i)).sign) (gp_I (gp_turn (P k) (P l) (P j)).sign) (nI n) fw xs ys ln wy od wr := by
      intro o1
      unfold wX_meet_99
      refine gp_beq _ 0 rfl rfl (rs _) r0 (fun c => ⟨gp_vi h hl, gp_vi h hl, ?_⟩) (fun c => w132f o1 (fun q => c ((z _).mpr q.1)))
      rw [gp_rx h hl, gp_ry h hl]
      exact gx_within h _ _ (gp_rr h hl).1 (gp_rr h hl).2 hi hj (gp_bb (fun d => w132f o1 (fun q => d q.2)) (fun d => w127 (Or.inr ⟨(z _).mp c, d⟩)))
    unfold wX_meet_73
    refine gp_beq _ 0 rfl rfl (rs _) r0 (fun c => ⟨gp_vi h hk, gp_vi h hk, ?_⟩) (fun c => w99 (fun q => c ((z _).mpr q.1)))
    rw [gp_rx h hk, gp_ry h hk]
    exact gx_within h _ _ (gp_rr h hk).1 (gp_rr h hk).2 hi hj (gp_bb (fun d => w99 (fun q => d q.2)) (fun d => w127 (Or.inl ⟨(z _).mp c, d⟩)))
  refine gp_ble 0 _ rfl (gp_I_mul _ _).symm r0 (gp_rg_s (by omega)) (fun c => tail (fun q => by omega)) (fun c => ?_)
  exact gp_ble 0 _ rfl (gp_I_mul _ _).symm r0 (gp_rg_s (by omega)) (fun d => tail (fun q => by omega)) (fun d => gp_pt hp (Or.inl ⟨by omega, by omega⟩))
end
end
section
/-! X: proper polygons, areas, cuts -/
theorem gp_n1 {i n : Nat} (hi : i < n) : (i + 1) % n < n := Nat.mod_lt _ (by omega)
theorem gp_n2 {i n : Nat} (hi : i < n) : (i + n - 1) % n < n := Nat.mod_lt _ (by omega)
theorem gp_af {i n : Nat} (hi : i < n) : (i + 1) % n = if i + 1 = n then 0 else i + 1 := by
  by_cases c : i + 1 = n
  · rw [if_pos c, c, Nat.mod_self]
  · rw [if_neg c, Nat.mod_eq_of_lt (by omega)]
theorem gp_bf {i n : Nat} (hi : i < n) : (i + n - 1) % n = if i = 0 then n - 1 else i - 1 := by
  by_cases c : i = 0
  · rw [if_pos c, c, Nat.zero_add, Nat.mod_eq_of_lt (by omega)]
  · rw [if_neg c, show i + n - 1 = i - 1 + n by omega, Nat.add_mod_right, Nat.mod_eq_of_lt (by omega)]
theorem gp_rn {i : Nat} (h : i < 100000) : gp_rg (i : Int) := gp_rg_s (by omega)
abbrev gp_cmp (c d : Prop) : Prop := c ↔ d
/-- branches by naturals -/
theorem gp_nle {a b : Nat} {A B : Prop} (ha : a < 100000) (hb : b < 100000) (f : a ≤ b → A) (g : b < a → B) : (nI a ≤ nI b → A) ∧ (¬ nI a ≤ nI b → B) := by
  rw [nI_leI (by omega) (by omega)]; exact ⟨f, fun z => g (by omega)⟩
theorem gp_nlt {a b : Nat} {A B : Prop} (ha : a < 100000) (hb : b < 100000) (f : a < b → A) (g : b ≤ a → B) : (nI a < nI b → A) ∧ (¬ nI a < nI b → B) := by
  rw [nI_ltI (by omega) (by omega)]; exact ⟨f, fun z => g (by omega)⟩
theorem gp_neq {a b : Nat} {A B : Prop} (ha : a < 100000) (hb : b < 100000) (f : a = b → A) (g : a ≠ b → B) : (nI a = nI b → A) ∧ (¬ nI a = nI b → B) := by
  rw [nI_eq (by omega) (by omega)]; exact ⟨f, g⟩
def gp_good (n : Nat) (P : Nat → Int × Int) (i : Nat) : Prop := ¬ (gp_turn (P ((i + n - 1) % n)) (P i) (P ((i + 1) % n)) = 0 ∧ (gp_os (P ((i + 1) % n)) (P ((i + n - 1) % n)) (P i) ∨ gp_os (P ((i + n - 1) % n)) (P i) (P ((i + 1) % n))))
def gp_apt (n : Nat) (P : Nat → Int × Int) (i k : Nat) : Prop := k ≠ i + 1 → (k + 1) % n ≠ i → ¬ gp_meet (P i) (P ((i + 1) % n)) (P k) (P ((k + 1) % n))
def gp_PX (n : Nat) (P : Nat → Int × Int) : Prop := 3 ≤ n ∧ ∀ i, i < n → gp_good n P i ∧ ∀ k, i < k → k < n → ¬ P i = P k ∧ gp_apt n P i k
section
variable {n : Nat} {P : Nat → Int × Int} {fw : Int32} {xs ys ln wy od wr : Nat → Int32}
theorem gx_after (h : gp_at n P xs ys) {i : Nat} (hi : i < n) {post : Int32 → Prop} (hp : post (nI ((i + 1) % n))) : wpX_after post (nI n, fw, xs, ys, ln, wy, od, wr) (nI i) := by
  have h10 := h.1
  unfold wpX_after
  rw [gp_af hi] at hp
  rw [nI_1]
  refine gp_neq (by omega) (by omega) (fun c => ?_) (fun c => ?_)
  · rw [if_pos c] at hp; exact hp
  · rw [if_neg c] at hp; exact hp
theorem gx_before (h : gp_at n P xs ys) {i : Nat} (hi : i < n) {post : Int32 → Prop} (hp : post (nI ((i + n - 1) % n))) : wpX_before post (nI n, fw, xs, ys, ln, wy, od, wr) (nI i) := by
  have h10 := h.1
  unfold wpX_before
  rw [gp_bf hi] at hp
  refine gp_neq (a := i) (b := 0) (by omega) (by omega) (fun c => ?_) (fun c => ?_)
  · rw [if_pos c] at hp
    have : nI n - 1 = nI (n - 1) := by rw [show n = n - 1 + 1 by omega, nI_pred, Nat.add_sub_cancel]
    rw [this]; exact hp
  · rw [if_neg c] at hp
    have : nI i - 1 = nI (i - 1) := by rw [show i = i - 1 + 1 by omega, nI_pred, Nat.add_sub_cancel]
    rw [this]; exact hp
theorem gx_goodCorner (h : gp_at n P xs ys) {i : Nat} (hi : i < n) {post : Int32 → Prop} (hp : post (gp_b (gp_good n P i))) : wpX_goodCorner post (nI n, fw, xs, ys, ln, wy, od, wr) (nI i) := by
  have ja := gp_n1 hi
  have hb := gp_n2 hi
  have w76 : ∀ S T : Prop, (gp_good n P i ↔ ¬ (S ∧ T)) → wX_goodCorner_76 post (gp_b S) (gp_b T) (nI n) fw xs ys ln wy od wr := by
    intro S T e
    unfold wX_goodCorner_76
    exact gp_bb (fun c => gp_pt hp (e.mpr fun z => c z.1)) (fun c => gp_bb (fun d => gp_pt hp (e.mpr fun z => d z.2)) (fun d => gp_pf hp fun z => e.mp z ⟨c, d⟩))
  have w27 : ∀ S : Prop, (S ↔ gp_turn (P ((i + n - 1) % n)) (P i) (P ((i + 1) % n)) = 0) → wX_goodCorner_27 post (nI i) (nI ((i + 1) % n)) (nI ((i + n - 1) % n)) (gp_b S) (nI n) fw xs ys ln wy od wr := by
    intro S e
    unfold wX_goodCorner_27
    refine ⟨gp_vi h ja, gp_vi h ja, ?_⟩
    rw [gp_rx h ja, gp_ry h ja]
    refine gx_onLine h _ (gp_ri h ja) hb hi (gp_bb (fun c => ⟨gp_vi h hb, gp_vi h hb, ?_⟩) (fun c => ?_))
    · rw [gp_rx h hb, gp_ry h hb]
      refine gx_onLine h _ (gp_ri h hb) hi ja (gp_bb (fun d => ?_) (fun d => ?_))
      · have := w76 S False (by unfold gp_good; rw [← e]; exact ⟨fun _ z => z.2, fun _ z => z.2.elim c d⟩)
        rw [gp_b_f (fun z => z)] at this
        exact this
      · have := w76 S True (by unfold gp_good; rw [← e]; exact ⟨fun q z => q ⟨z.1, Or.inr d⟩, fun q z => q ⟨z.1, trivial⟩⟩)
        rw [gp_b_t trivial] at this
        unfold wX_goodCorner_71
        exact this
    · have := w76 S True (by unfold gp_good; rw [← e]; exact ⟨fun q z => q ⟨z.1, Or.inl c⟩, fun q z => q ⟨z.1, trivial⟩⟩)
      rw [gp_b_t trivial] at this
      unfold wX_goodCorner_71
      exact this
  unfold wpX_goodCorner
  refine gx_after h hi (gx_before h hi (gx_turnOf h hb hi ja ?_))
  refine gp_beq _ 0 rfl rfl (gp_turn_g (gp_ri h hb) (gp_ri h hi) (gp_ri h ja)) (gp_rg_s (by omega)) (fun c => ?_) (fun c => ?_)
  · have := w27 True ⟨fun _ => c, fun _ => trivial⟩
    rw [gp_b_t trivial] at this; exact this
  · have := w27 False ⟨fun z => z.elim, fun z => c z⟩
    rw [gp_b_f (fun z => z)] at this; exact this
theorem gx_ip77 (h : gp_at n P xs ys) {i k : Nat} (hi : i < n) (hk : k < n) {post : Int32 → Prop} {J12 : Int32 → Prop} {J30 : Int32 → Int32 → Prop} (S : Prop)
    (hJ : J30 (gp_b (¬ S ∧ gp_apt n P i k)) (nI (k + 1))) : wX_isProper_77 post J12 J30 (nI i) (nI k) (gp_b S) (nI n) fw xs ys ln wy od wr := by
  have h10 := h.1
  have ja := gp_n1 hi
  have ka := gp_n1 hk
  have w100 : ∀ T : Prop, (T ↔ (k ≠ i + 1 ∧ (k + 1) % n ≠ i)) → wX_isProper_100 post J12 J30 (nI i) (nI k) (gp_b S) (gp_b T) (nI n) fw xs ys ln wy od wr := by
    intro T e
    unfold wX_isProper_100
    refine gp_bb (fun s => gp_bb (fun t => nm_r (nI_1 k) ?_) (fun t => ?_)) (fun s => nm_r (nI_1 k) ?_)
    · rw [gp_b_t ⟨s, fun a b => absurd (e.mpr ⟨a, b⟩) t⟩] at hJ; exact hJ
    · have t := e.mp t
      refine gx_after h hi (gx_after h hk (gx_meet h hi ja hk ka (gp_bb (fun m => nm_r (nI_1 k) ?_) (fun m => nm_r (nI_1 k) ?_))))
      · rw [gp_b_t ⟨s, fun _ _ => m⟩] at hJ; exact hJ
      · rw [gp_b_f (fun z => z.2 t.1 t.2 m)] at hJ; exact hJ
    · rw [gp_b_f (fun z => z.1 s)] at hJ; exact hJ
  have w99 : ¬ (k ≠ i + 1 ∧ (k + 1) % n ≠ i) → wX_isProper_99 post J12 J30 (nI i) (nI k) (gp_b S) (nI n) fw xs ys ln wy od wr := by
    intro e
    have := w100 False ⟨fun z => z.elim, e⟩
    rw [gp_b_f (fun z => z)] at this
    unfold wX_isProper_99; exact this
  unfold wX_isProper_77
  rw [nI_1]
  refine gp_neq (by omega) (by omega) (fun c => w99 (fun z => z.1 c)) (fun c => ?_)
  refine gx_after h hk (gp_neq (by omega) (by omega) (fun d => w99 (fun z => z.2 d)) (fun d => ?_))
  have := w100 True ⟨fun _ => ⟨c, d⟩, fun _ => trivial⟩
  rw [gp_b_t trivial] at this; exact this
theorem gx_ip30 (h : gp_at n P xs ys) {i : Nat} (hi : i < n) {post : Int32 → Prop} {J12 : Int32 → Prop} : ∀ (d k m : Nat) (G : Prop), k + d = n → i < k → d < m →
    ((G ∧ ∀ k', k ≤ k' → k' < n → ¬ P i = P k' ∧ gp_apt n P i k') → J12 (nI (i + 1))) → (¬ (G ∧ ∀ k', k ≤ k' → k' < n → ¬ P i = P k' ∧ gp_apt n P i k') → post 0) →
    wX_isProper_30 post J12 (nI i) (nI n) fw xs ys ln wy od wr m (gp_b G) (nI k) := by
  have h10 := h.1
  have w143 : ∀ Q : Prop, (Q → J12 (nI (i + 1))) → (¬ Q → post 0) → wX_isProper_143 post J12 (nI i) (gp_b Q) (nI n) fw xs ys ln wy od wr := by
    intro Q a b
    unfold wX_isProper_143
    exact gp_bb b (fun c => nm_r (nI_1 i) (a c))
  intro d
  induction d with
  | zero =>
    intro k m G e ik dm hJ hp
    obtain ⟨m, rfl⟩ : ∃ m', m = m' + 1 := ⟨m - 1, by omega⟩
    rw [wX_isProper_30]
    refine br_t (nI_le (by omega) (by omega)) (w143 G (fun g => hJ ⟨g, fun k' a b => by omega⟩) (fun g => hp (fun z => g z.1)))
  | succ d ih =>
    intro k m G e ik dm hJ hp
    obtain ⟨m, rfl⟩ : ∃ m', m = m' + 1 := ⟨m - 1, by omega⟩
    have hk : k < n := by omega
    rw [wX_isProper_30]
    refine br_f (nI_ge (by omega) (by omega)) ?_
    refine gp_bb (fun g => w143 G (fun z => absurd z g) (fun _ => hp (fun z => g z.1))) (fun g => ⟨gp_vi h hi, gp_vi h hk, ?_⟩)
    have next : ∀ S : Prop, (S ↔ P i = P k) → wX_isProper_77 post J12 (wX_isProper_30 post J12 (nI i) (nI n) fw xs ys ln wy od wr m) (nI i) (nI k) (gp_b S) (nI n) fw xs ys ln wy od wr := by
      intro S es
      refine gx_ip77 h hi hk S ?_
      refine ih (k + 1) m (¬ S ∧ gp_apt n P i k) (by omega) (by omega) (by omega) (fun z => hJ ⟨g, fun k' a b => ?_⟩) (fun z => hp (fun q => z ?_))
      · by_cases c : k' = k
        · subst c; exact ⟨fun q => z.1.1 (es.mpr q), z.1.2⟩
        · exact z.2 k' (by omega) b
      · exact ⟨⟨fun s => (q.2 k (by omega) hk).1 (es.mp s), (q.2 k (by omega) hk).2⟩, fun k' a b => q.2 k' (by omega) b⟩
    rw [gp_rx h hi, gp_rx h hk, gp_ry h hi, gp_ry h hk]
    refine gp_beq _ _ rfl rfl (gp_rr h hi).1 (gp_rr h hk).1 (fun c1 => ⟨gp_vi h hi, gp_vi h hk, ?_⟩) (fun c1 => ?_)
    · refine gp_beq _ _ rfl rfl (gp_rr h hi).2 (gp_rr h hk).2 (fun c2 => ?_) (fun c2 => ?_)
      · have := next True ⟨fun _ => Prod.ext c1 c2, fun _ => trivial⟩
        rw [gp_b_t trivial] at this; exact this
      · have := next False ⟨fun z => z.elim, fun z => c2 (by rw [z])⟩
        rw [gp_b_f (fun z => z)] at this
        unfold wX_isProper_76; exact this
    · have := next False ⟨fun z => z.elim, fun z => c1 (by rw [z])⟩
      rw [gp_b_f (fun z => z)] at this
      unfold wX_isProper_76; exact this
theorem gx_ip12 (h : gp_at n P xs ys) {post : Int32 → Prop} : ∀ (d i m : Nat), i + d = n → d < m →
    ((∀ i', i ≤ i' → i' < n → gp_good n P i' ∧ ∀ k, i' < k → k < n → ¬ P i' = P k ∧ gp_apt n P i' k) → post 1) → (¬ (∀ i', i ≤ i' → i' < n → gp_good n P i' ∧ ∀ k, i' < k → k < n → ¬ P i' = P k ∧ gp_apt n P i' k) → post 0) →
    wX_isProper_12 post (nI n) fw xs ys ln wy od wr m (nI i) := by
  have h10 := h.1
  intro d
  induction d with
  | zero =>
    intro i m e dm h1 h0
    obtain ⟨m, rfl⟩ : ∃ m', m = m' + 1 := ⟨m - 1, by omega⟩
    rw [wX_isProper_12]
    exact br_t (nI_le (by omega) (by omega)) (h1 fun i' a b => by omega)
  | succ d ih =>
    intro i m e dm h1 h0
    obtain ⟨m, rfl⟩ : ∃ m', m = m' + 1 := ⟨m - 1, by omega⟩
    have hi : i < n := by omega
    rw [wX_isProper_12]
    refine br_f (nI_ge (by omega) (by omega)) (gx_goodCorner h hi (nm_r (nI_1 i) ⟨n + 1, ?_⟩))
    refine gx_ip30 h hi (n - (i + 1)) (i + 1) (n + 1) _ (by omega) (by omega) (by omega) (fun z => ?_) (fun z => h0 fun q => z ?_)
    · refine ih (i + 1) m (by omega) (by omega) (fun w => h1 fun i' a b => ?_) (fun w => h0 fun q => w fun i' a b => q i' (by omega) b)
      by_cases c : i' = i
      · subst c; exact ⟨z.1, fun k a b => z.2 k (by omega) b⟩
      · exact w i' (by omega) b
    · have q := q i (by omega) hi
      exact ⟨q.1, fun k a b => q.2 k (by omega) b⟩
theorem gx_isProper (h : gp_at n P xs ys) {post : Int32 → Prop} (hp : post (gp_b (gp_PX n P))) : wpX_isProper post (nI n, fw, xs, ys, ln, wy, od, wr) := by
  have h10 := h.1
  unfold wpX_isProper
  refine gp_nle (a := 3) (by omega) (by omega) (fun c => ⟨n + 1, ?_⟩) (fun c => gp_pf hp (fun z => by have := z.1; omega))
  refine gx_ip12 h n 0 (n + 1) (by omega) (by omega) (fun z => gp_pt hp ⟨c, fun i hi => z i (by omega) hi⟩) (fun z => gp_pf hp (fun w => z fun i _ hi => w.2 i hi))
/-- the signed area -/
def gp_sa (n : Nat) (P : Nat → Int × Int) (i : Nat) : Int := (P i).1 * (P ((i + 1) % n)).2 - (P ((i + 1) % n)).1 * (P i).2
theorem gx_signedArea (h : gp_at n P xs ys) {post : Int32 → Prop} (hp : post (gp_I (gp_sm (gp_sa n P) n))) : wpX_signedArea post (nI n, fw, xs, ys, ln, wy, od, wr) := by
  have h10 := h.1
  have loop : ∀ (d i m : Nat), i + d = n → d < m → wX_signedArea_4 post (nI n) fw xs ys ln wy od wr m (gp_I (gp_sm (gp_sa n P) i)) (nI i) := by
    intro d
    induction d with
    | zero =>
      intro i m e dm
      obtain ⟨m, rfl⟩ : ∃ m', m = m' + 1 := ⟨m - 1, by omega⟩
      rw [wX_signedArea_4]
      refine br_t (nI_le (by omega) (by omega)) ?_
      rw [show i = n by omega]; exact hp
    | succ d ih =>
      intro i m e dm
      obtain ⟨m, rfl⟩ : ∃ m', m = m' + 1 := ⟨m - 1, by omega⟩
      have hi : i < n := by omega
      have ja := gp_n1 hi
      rw [wX_signedArea_4]
      refine br_f (nI_ge (by omega) (by omega)) (gx_after h hi ⟨gp_vi h hi, gp_vi h ja, gp_vi h ja, gp_vi h hi, ?_⟩)
      refine nm_r (e' := gp_I (gp_sm (gp_sa n P) (i + 1))) ?_ (nm_r (nI_1 i) (ih (i + 1) m (by omega) (by omega)))
      rw [gp_rx h hi, gp_rx h ja, gp_ry h hi, gp_ry h ja, gp_sm_s]
      simp only [← gp_I_sub, ← gp_I_mul, ← gp_I_add]
      refine congrArg gp_I ?_
      unfold gp_sa
      omega
  unfold wpX_signedArea
  exact ⟨n + 1, loop n 0 (n + 1) (by omega) (by omega)⟩
end
end
section
/-! X: cuts -/
def gp_opn (n : Nat) (P : Nat → Int × Int) (s : Int) (i j : Nat) : Prop := gp_opL (s * gp_turn (P ((i + n - 1) % n)) (P i) (P ((i + 1) % n))) (s * gp_turn (P i) (P ((i + 1) % n)) (P j)) (s * gp_turn (P i) (P j) (P ((i + n - 1) % n)))
/-- no side without these corners touches the line, none of the corners lies on it -/
def gp_clr (n : Nat) (P : Nat → Int × Int) (p q i : Nat) : Prop := (i ≠ p → i ≠ q → (i + 1) % n ≠ p → (i + 1) % n ≠ q → ¬ gp_meet (P p) (P q) (P i) (P ((i + 1) % n))) ∧ (i ≠ p → i ≠ q → ¬ gp_os (P i) (P p) (P q))
def gp_ICX (n : Nat) (P : Nat → Int × Int) (s : Int) (p q : Nat) : Prop := p ≠ q ∧ (p + 1) % n ≠ q ∧ (q + 1) % n ≠ p ∧ (∀ i, i < n → gp_clr n P p q i) ∧ gp_opn n P s p q ∧ gp_opn n P s q p
section
variable {n : Nat} {P : Nat → Int × Int} {fw : Int32} {xs ys ln wy od wr : Nat → Int32}
theorem gx_opens (h : gp_at n P xs ys) {i j : Nat} (hi : i < n) (hj : j < n) (s : Int) (hs : -1 ≤ s ∧ s ≤ 1) {post : Int32 → Prop} (hp : post (gp_b (gp_opn n P s i j))) : wpX_opens post (nI n, fw, xs, ys, ln, wy, od, wr) (nI i) (nI j) (gp_I s) := by
  have ja := gp_n1 hi
  have hb := gp_n2 hi
  have b1 := gp_turn_r (gp_ri h hb) (gp_ri h hi) (gp_ri h ja)
  have b2 := gp_turn_r (gp_ri h hi) (gp_ri h ja) (gp_ri h hj)
  have b3 := gp_turn_r (gp_ri h hi) (gp_ri h hj) (gp_ri h hb)
  have rs : ∀ t : Int, -8192 ≤ t ∧ t ≤ 8192 → gp_rg (s * t) := by
    intro t ht
    refine gp_rg_s ?_
    rcases (show s = -1 ∨ s = 0 ∨ s = 1 by omega) with e | e | e <;> rw [e] <;> omega
  unfold wpX_opens
  refine gx_before h hi (gx_after h hi (gx_turnOf h hb hi ja (nm_r (gp_I_mul _ _).symm (gx_turnOf h hi ja hj (nm_r (gp_I_mul _ _).symm (gx_turnOf h hi hj hb (nm_r (gp_I_mul _ _).symm ?_)))))))
  unfold gp_opn gp_opL at hp
  have g1 := rs _ b1
  have g2 := rs _ b2
  have g3 := rs _ b3
  generalize s * gp_turn (P ((i + n - 1) % n)) (P i) (P ((i + 1) % n)) = t1 at *
  generalize s * gp_turn (P i) (P ((i + 1) % n)) (P j) = t2 at *
  generalize s * gp_turn (P i) (P j) (P ((i + n - 1) % n)) = t3 at *
  have r0 : gp_rg 0 := gp_rg_s (by omega)
  refine gp_ble t1 0 rfl rfl g1 r0 (fun c1 => ?_) (fun c1 => ?_)
  · refine gp_beq t1 0 rfl rfl g1 r0 (fun c2 => ?_) (fun c2 => ?_)
    · exact gp_ble t2 0 rfl rfl g2 r0 (fun c3 => gp_pf hp (by omega)) (fun c3 => gp_pt hp (by omega))
    · refine gp_blt 0 t2 rfl rfl r0 g2 (fun c3 => gp_pt hp (by omega)) (fun c3 => ?_)
      exact gp_ble t3 0 rfl rfl g3 r0 (fun c4 => gp_pf hp (by omega)) (fun c4 => gp_pt hp (by omega))
  · refine gp_ble t2 0 rfl rfl g2 r0 (fun c3 => gp_pf hp (by omega)) (fun c3 => ?_)
    exact gp_ble t3 0 rfl rfl g3 r0 (fun c4 => gp_pf hp (by omega)) (fun c4 => gp_pt hp (by omega))
theorem gx_ic28 (h : gp_at n P xs ys) {p q : Nat} (hpn : p < n) (hqn : q < n) (s : Int) (hs : -1 ≤ s ∧ s ≤ 1) {post : Int32 → Prop} : ∀ (d i m : Nat), i + d = n → d < m →
    (((∀ i', i ≤ i' → i' < n → gp_clr n P p q i') ∧ gp_opn n P s p q ∧ gp_opn n P s q p) → post 1) → (¬ ((∀ i', i ≤ i' → i' < n → gp_clr n P p q i') ∧ gp_opn n P s p q ∧ gp_opn n P s q p) → post 0) →
    wX_isCut_28 post (nI p) (nI q) (gp_I s) (nI n) fw xs ys ln wy od wr m (nI i) := by
  have h10 := h.1
  intro d
  induction d with
  | zero =>
    intro i m e dm h1 h0
    obtain ⟨m, rfl⟩ : ∃ m', m = m' + 1 := ⟨m - 1, by omega⟩
    rw [wX_isCut_28]
    refine br_t (nI_le (by omega) (by omega)) (gx_opens h hpn hqn s hs (gp_bb (fun c => h0 fun z => c z.2.1) (fun c => gx_opens h hqn hpn s hs (gp_bb (fun d => h0 fun z => d z.2.2) (fun d => h1 ⟨fun i' a b => by omega, c, d⟩)))))
  | succ d ih =>
    intro i m e dm h1 h0
    obtain ⟨m, rfl⟩ : ∃ m', m = m' + 1 := ⟨m - 1, by omega⟩
    have hi : i < n := by omega
    have ja := gp_n1 hi
    have step : gp_clr n P p q i → wX_isCut_28 post (nI p) (nI q) (gp_I s) (nI n) fw xs ys ln wy od wr m (nI (i + 1)) := by
      intro c
      refine ih (i + 1) m (by omega) (by omega) (fun z => h1 ⟨fun i' a b => ?_, z.2⟩) (fun z => h0 fun w => z ⟨fun i' a b => w.1 i' (by omega) b, w.2⟩)
      by_cases e : i' = i
      · subst e; exact c
      · exact z.1 i' (by omega) b
    have stop : ¬ gp_clr n P p q i → post 0 := fun c => h0 fun w => c (w.1 i (by omega) hi)
    have w96 : (i ≠ p → i ≠ q → (i + 1) % n ≠ p → (i + 1) % n ≠ q → ¬ gp_meet (P p) (P q) (P i) (P ((i + 1) % n))) → wX_isCut_96 post (wX_isCut_28 post (nI p) (nI q) (gp_I s) (nI n) fw xs ys ln wy od wr m) (nI p) (nI q) (gp_I s) (nI i) (nI n) fw xs ys ln wy od wr := by
      intro nm
      unfold wX_isCut_96
      refine gp_neq (by omega) (by omega) (fun c => nm_r (nI_1 i) (step ⟨nm, fun a => absurd c a⟩)) (fun c => ?_)
      refine gp_neq (by omega) (by omega) (fun d => nm_r (nI_1 i) (step ⟨nm, fun _ a => absurd d a⟩)) (fun d => ⟨gp_vi h hi, gp_vi h hi, ?_⟩)
      rw [gp_rx h hi, gp_ry h hi]
      exact gx_onLine h _ (gp_ri h hi) hpn hqn (gp_bb (fun o => nm_r (nI_1 i) (step ⟨nm, fun _ _ => o⟩)) (fun o => stop fun z => z.2 c d o))
    have w69 : ¬ (i ≠ p ∧ i ≠ q ∧ (i + 1) % n ≠ p ∧ (i + 1) % n ≠ q) → wX_isCut_69 post (wX_isCut_28 post (nI p) (nI q) (gp_I s) (nI n) fw xs ys ln wy od wr m) (nI p) (nI q) (gp_I s) (nI i) (nI ((i + 1) % n)) (nI n) fw xs ys ln wy od wr := by
      intro c
      unfold wX_isCut_69 wX_isCut_74
      exact br_f gp_one_ne (w96 fun a1 a2 a3 a4 => absurd ⟨a1, a2, a3, a4⟩ c)
    rw [wX_isCut_28]
    refine br_f (nI_ge (by omega) (by omega)) (gx_after h hi ?_)
    refine gp_neq (by omega) (by omega) (fun c => w69 fun z => z.1 c) (fun c1 => ?_)
    refine gp_neq (by omega) (by omega) (fun c => w69 fun z => z.2.1 c) (fun c2 => ?_)
    refine gp_neq (by omega) (by omega) (fun c => w69 fun z => z.2.2.1 c) (fun c3 => ?_)
    refine gp_neq (by omega) (by omega) (fun c => w69 fun z => z.2.2.2 c) (fun c4 => ?_)
    unfold wX_isCut_74
    refine br_t rfl (gx_meet h hpn hqn hi ja (gp_bb (fun mm => w96 fun _ _ _ _ => mm) (fun mm => stop fun z => z.1 c1 c2 c3 c4 mm)))
theorem gx_isCut (h : gp_at n P xs ys) {p q : Nat} (hpn : p < n) (hqn : q < n) (s : Int) (hs : -1 ≤ s ∧ s ≤ 1) {post : Int32 → Prop} (hp : post (gp_b (gp_ICX n P s p q))) : wpX_isCut post (nI n, fw, xs, ys, ln, wy, od, wr) (nI p) (nI q) (gp_I s) := by
  have h10 := h.1
  have pa := gp_n1 hpn
  have qa := gp_n1 hqn
  unfold wpX_isCut
  refine gp_neq (by omega) (by omega) (fun c => gp_pf hp fun z => z.1 c) (fun c1 => ?_)
  refine gx_after h hpn (gp_neq (by omega) (by omega) (fun c => gp_pf hp fun z => z.2.1 c) (fun c2 => ?_))
  refine gx_after h hqn (gp_neq (by omega) (by omega) (fun c => gp_pf hp fun z => z.2.2.1 c) (fun c3 => ⟨n + 1, ?_⟩))
  exact gx_ic28 h hpn hqn s hs n 0 (n + 1) (by omega) (by omega) (fun z => gp_pt hp ⟨c1, c2, c3, fun i hi => z.1 i (by omega) hi, z.2⟩) (fun z => gp_pf hp fun w => z ⟨fun i _ hi => w.2.2.2.1 i hi, w.2.2.2.2⟩)
theorem gp_sa_r (h : gp_at n P xs ys) : ∀ i, i ≤ n → -(8192 * (i : Int)) ≤ gp_sm (gp_sa n P) i ∧ gp_sm (gp_sa n P) i ≤ 8192 * (i : Int) := by
  intro i
  induction i with
  | zero => intro _; rw [gp_sm_0]; omega
  | succ i ih =>
    intro hi
    have a := ih (by omega)
    have b1 := gp_rb h (i := i) (by omega)
    have b2 := gp_rb h (gp_n1 (i := i) (n := n) (by omega))
    rw [gp_sm_s]
    unfold gp_sa at *
    have := gp_mulb (a := (P i).1) (b := (P ((i + 1) % n)).2) (by omega) (by omega)
    have := gp_mulb (a := (P ((i + 1) % n)).1) (b := (P i).2) (by omega) (by omega)
    omega
theorem gp_sa_g (h : gp_at n P xs ys) : gp_rg (gp_sm (gp_sa n P) n) := by
  have := gp_sa_r h n (by omega)
  have := h.1
  exact gp_rg_s (by omega)
theorem gx_noCorner (h : gp_at n P xs ys) (p0 : Int32) {post : Int32 → Prop} (h1 : (∀ i, i < n → p0 ≠ nI i) → post 1) (h0 : ∀ i, i < n → p0 = nI i → post 0) : wpX_noCorner post (nI n, fw, xs, ys, ln, wy, od, wr) p0 := by
  have h10 := h.1
  unfold wpX_noCorner
  refine br_c (fun c => h1 fun i hi e => ?_) (fun c => ?_)
  · rw [e] at c; exact nI_pos (by omega) c
  · obtain ⟨j, hj, rfl⟩ := nI_of c
    by_cases q : j < n
    · exact br_t (nI_lt q (by omega)) (h0 j q rfl)
    · refine br_f (nI_nlt (by omega) (by omega)) (h1 fun i hi e => ?_)
      rw [nI_eq hj (by omega)] at e
      omega
/-- X's public cut -/
def gp_CX (n : Nat) (P : Nat → Int × Int) (p q : Nat) : Prop := gp_PX n P ∧ gp_ICX n P (gp_sm (gp_sa n P) n).sign p q
def gp_C2 (n : Nat) (C : Nat → Nat → Prop) (a b : Int32) : Prop := ∃ p q, p < n ∧ q < n ∧ a = nI p ∧ b = nI q ∧ C p q
theorem gp_sign_r (v : Int) : -1 ≤ v.sign ∧ v.sign ≤ 1 := by
  rcases gp_sign_cases v with ⟨e, _⟩ | ⟨e, _⟩ | ⟨e, _⟩ <;> rw [e] <;> omega
theorem gp_C2_nI (h10 : n ≤ 10) {C : Nat → Nat → Prop} {p q : Nat} (hp : p < n) (hq : q < n) : gp_C2 n C (nI p) (nI q) ↔ C p q := by
  constructor
  · rintro ⟨p', q', a, b, c, d, e⟩
    rw [nI_eq (by omega) (by omega)] at c d
    subst c; subst d; exact e
  · exact fun e => ⟨p, q, hp, hq, rfl, rfl, e⟩
theorem gx_cut (h : gp_at n P xs ys) (a b : Int32) {post : Int32 → Prop} (hp : post (gp_b (gp_C2 n (gp_CX n P) a b))) : wpX_cut post (nI n, fw, xs, ys, ln, wy, od, wr) a b := by
  have h10 := h.1
  unfold wpX_cut
  refine gx_noCorner h a (fun c => br_f gp_one_ne (gp_pf hp ?_)) (fun p hpn ea => br_t rfl ?_)
  · rintro ⟨p, q, hp, hq, e1, e2, _⟩; exact c p hp e1
  · refine gx_noCorner h b (fun c => br_f gp_one_ne (gp_pf hp ?_)) (fun q hqn eb => br_t rfl ?_)
    · rintro ⟨p, q, hp, hq, e1, e2, _⟩; exact c q hq e2
    · subst ea; subst eb
      rw [gp_b_c (gp_C2_nI h10 hpn hqn)] at hp
      refine gx_isProper h (gp_bb (fun c => gp_pf hp fun z => c z.1) (fun c => ?_))
      refine gx_signedArea h (gx_signOf _ (gp_sa_g h) (gx_isCut h hpn hqn _ (gp_sign_r _) ⟨gp_b_n _, ?_⟩))
      rw [← gp_b_c (show gp_CX n P p q ↔ _ from ⟨fun z => z.2, fun z => ⟨c, z⟩⟩)]
      exact hp
theorem gx_proper (h : gp_at n P xs ys) {post : Int32 → Prop} (hp : post (gp_b (gp_PX n P))) : wpX_proper post (nI n, fw, xs, ys, ln, wy, od, wr) := by
  unfold wpX_proper
  exact gx_isProper h ⟨gp_b_n _, hp⟩
theorem gx_size (v : Int) (hv : gp_rg v) {post : Int32 → Prop} (hp : post (gp_I (v.natAbs : Int))) : wpX_size post (nI n, fw, xs, ys, ln, wy, od, wr) (gp_I v) := by
  unfold wpX_size
  refine gp_ble 0 v rfl rfl (gp_rg_s (by omega)) hv (fun c => ?_) (fun c => ?_)
  · rw [show (v.natAbs : Int) = v by omega] at hp; exact hp
  · rw [show (v.natAbs : Int) = -v by omega, gp_I_neg] at hp; exact hp
theorem gx_area (h : gp_at n P xs ys) {post : Int32 → Prop} (h0 : ¬ gp_PX n P → post (-1000)) (h1 : gp_PX n P → post (gp_I ((gp_sm (gp_sa n P) n).natAbs : Int))) : wpX_area post (nI n, fw, xs, ys, ln, wy, od, wr) := by
  unfold wpX_area
  exact gx_isProper h (gp_bb h0 fun c => gx_signedArea h (gx_size _ (gp_sa_g h) (h1 c)))
theorem gx_left (h : gp_at n P xs ys) {post : Int32 → Prop} (hp : post (gp_b (gp_PX n P ∧ 0 < gp_sm (gp_sa n P) n))) : wpX_left post (nI n, fw, xs, ys, ln, wy, od, wr) := by
  unfold wpX_left
  exact gx_isProper h (gp_bb (fun c => gp_pf hp fun z => c z.1) fun c => gx_signedArea h (gp_ble _ 0 rfl rfl (gp_sa_g h) (gp_rg_s (by omega)) (fun d => gp_pf hp fun z => by omega) (fun d => gp_pt hp ⟨c, by omega⟩)))
/-- greatest common divisors as X reckons them -/
def gp_eu : Nat → Nat → Nat → Nat
  | 0, x, _ => x
  | k + 1, x, y => if y = 0 then x else gp_eu k y (x % y)
theorem gp_eu_tab : ∀ x, x < 16 → ∀ y, y < 16 → gp_eu 10 x y = Nat.gcd x y := by decide +kernel
theorem gx_common_loop {post : Int32 → Prop} : ∀ (d x y k m : Nat), k + d = 10 → x < 1000 → y < 1000 → d < m → post (nI (gp_eu d x y)) → wX_common_16 post (nI n) fw xs ys ln wy od wr m (nI x) (nI y) (nI k) := by
  intro d
  induction d with
  | zero =>
    intro x y k m e hx hy dm hp
    obtain ⟨m, rfl⟩ : ∃ m', m = m' + 1 := ⟨m - 1, by omega⟩
    rw [wX_common_16]
    rw [show k = 10 by omega]
    exact br_t (by decide) hp
  | succ d ih =>
    intro x y k m e hx hy dm hp
    obtain ⟨m, rfl⟩ : ∃ m', m = m' + 1 := ⟨m - 1, by omega⟩
    rw [wX_common_16]
    refine gp_nle (a := 10) (by omega) (by omega) (fun c => by omega) (fun c => ?_)
    rw [gp_eu] at hp
    refine gp_neq (b := 0) (by omega) (by omega) (fun c => ?_) (fun c => ⟨?_, ?_⟩)
    · rw [if_pos c] at hp; exact hp
    · exact nI_ne0 (by omega) (by omega)
    · rw [if_neg c] at hp
      refine nm_r (e' := nI (x % y)) ?_ (nm_r (nI_1 k) (ih y (x % y) (k + 1) m (by omega) hy (by have := Nat.mod_lt x (show 0 < y by omega); omega) (by omega) hp))
      exact pk_rem (by omega) (by omega) (by omega)
theorem gx_common (a b : Int) (ha : -15 ≤ a ∧ a ≤ 15) (hb : -15 ≤ b ∧ b ≤ 15) {post : Int32 → Prop} (hp : post (gp_I (Nat.gcd a.natAbs b.natAbs : Int))) : wpX_common post (nI n, fw, xs, ys, ln, wy, od, wr) (gp_I a) (gp_I b) := by
  unfold wpX_common
  refine gx_size _ (gp_rg_s (by omega)) (gx_size _ (gp_rg_s (by omega)) ⟨11, ?_⟩)
  rw [← gp_nI, ← gp_nI]
  refine gx_common_loop 10 a.natAbs b.natAbs 0 11 (by omega) (by omega) (by omega) (by omega) ?_
  rw [gp_eu_tab _ (by omega) _ (by omega), gp_nI]
  exact hp
def gp_ep (n : Nat) (P : Nat → Int × Int) (i : Nat) : Int := (Nat.gcd ((P ((i + 1) % n)).1 - (P i).1).natAbs ((P ((i + 1) % n)).2 - (P i).2).natAbs : Int)
theorem gx_edgePoints (h : gp_at n P xs ys) {post : Int32 → Prop} (hp : post (gp_I (gp_sm (gp_ep n P) n))) : wpX_edgePoints post (nI n, fw, xs, ys, ln, wy, od, wr) := by
  have h10 := h.1
  have loop : ∀ (d i m : Nat), i + d = n → d < m → wX_edgePoints_4 post (nI n) fw xs ys ln wy od wr m (gp_I (gp_sm (gp_ep n P) i)) (nI i) := by
    intro d
    induction d with
    | zero =>
      intro i m e dm
      obtain ⟨m, rfl⟩ : ∃ m', m = m' + 1 := ⟨m - 1, by omega⟩
      rw [wX_edgePoints_4]
      refine br_t (nI_le (by omega) (by omega)) ?_
      rw [show i = n by omega]; exact hp
    | succ d ih =>
      intro i m e dm
      obtain ⟨m, rfl⟩ : ∃ m', m = m' + 1 := ⟨m - 1, by omega⟩
      have hi : i < n := by omega
      have ja := gp_n1 hi
      have b1 := gp_rb h hi
      have b2 := gp_rb h ja
      rw [wX_edgePoints_4]
      refine br_f (nI_ge (by omega) (by omega)) (gx_after h hi ⟨gp_vi h ja, gp_vi h hi, gp_vi h ja, gp_vi h hi, ?_⟩)
      rw [gp_rx h hi, gp_rx h ja, gp_ry h hi, gp_ry h ja, ← gp_I_sub, ← gp_I_sub]
      refine gx_common _ _ (by omega) (by omega) (nm_r (e' := gp_I (gp_sm (gp_ep n P) (i + 1))) ?_ (nm_r (nI_1 i) (ih (i + 1) m (by omega) (by omega))))
      rw [gp_sm_s, gp_I_add]
      rfl
  unfold wpX_edgePoints
  exact ⟨n + 1, loop n 0 (n + 1) (by omega) (by omega)⟩
theorem gx_edge (h : gp_at n P xs ys) {post : Int32 → Prop} (h0 : ¬ gp_PX n P → post (-1000)) (h1 : gp_PX n P → post (gp_I (gp_sm (gp_ep n P) n))) : wpX_edge post (nI n, fw, xs, ys, ln, wy, od, wr) := by
  unfold wpX_edge
  exact gx_isProper h (gp_bb h0 fun c => gx_edgePoints h (h1 c))
theorem gx_inside (h : gp_at n P xs ys) {post : Int32 → Prop} (h0 : ¬ gp_PX n P → post (-1000)) (h1 : gp_PX n P → post ((gp_I (((gp_sm (gp_sa n P) n).natAbs : Int) - gp_sm (gp_ep n P) n + 2)) / 2)) : wpX_inside post (nI n, fw, xs, ys, ln, wy, od, wr) := by
  unfold wpX_inside
  refine gx_isProper h (gp_bb h0 fun c => gx_signedArea h (gx_size _ (gp_sa_g h) (gx_edgePoints h ⟨by decide, ?_⟩)))
  have := h1 c
  rw [gp_I_add, gp_I_sub] at this
  exact this
end
end
section
/-! X: places, convex polygons, the widest pair -/
section
variable {n : Nat} {P : Nat → Int × Int} {fw : Int32} {xs ys ln wy od wr : Nat → Int32}
theorem gx_badPoint (p0 : Int32) {post : Int32 → Prop} (h1 : (∀ k, k < 256 → p0 ≠ nI k) → post 1) (h0 : ∀ k, k < 256 → p0 = nI k → post 0) : wpX_badPoint post (nI n, fw, xs, ys, ln, wy, od, wr) p0 := by
  unfold wpX_badPoint
  refine br_c (fun c => h1 fun i hi e => ?_) (fun c => ?_)
  · rw [e] at c; exact nI_pos (by omega) c
  · obtain ⟨j, hj, rfl⟩ := nI_of c
    by_cases q : j < 256
    · exact br_t (nI_lt (b := 256) q (by omega)) (h0 j q rfl)
    · refine br_f (nI_nlt (b := 256) (by omega) (by omega)) (h1 fun i hi e => ?_)
      rw [nI_eq hj (by omega)] at e
      omega
theorem gx_onEdge (h : gp_at n P xs ys) (p : Int × Int) (hpi : gp_in p) {post : Int32 → Prop} (hp : post (gp_b (∃ i, i < n ∧ gp_os p (P i) (P ((i + 1) % n))))) : wpX_onEdge post (nI n, fw, xs, ys, ln, wy, od, wr) (gp_I p.1) (gp_I p.2) := by
  have h10 := h.1
  have loop : ∀ (d i m : Nat), i + d = n → d < m → wX_onEdge_5 post (gp_I p.1) (gp_I p.2) (nI n) fw xs ys ln wy od wr m (gp_b (∃ j, j < i ∧ gp_os p (P j) (P ((j + 1) % n)))) (nI i) := by
    intro d
    induction d with
    | zero =>
      intro i m e dm
      obtain ⟨m, rfl⟩ : ∃ m', m = m' + 1 := ⟨m - 1, by omega⟩
      rw [wX_onEdge_5]
      refine br_t (nI_le (by omega) (by omega)) ?_
      rw [show i = n by omega]; exact ⟨gp_b_n _, hp⟩
    | succ d ih =>
      intro i m e dm
      obtain ⟨m, rfl⟩ : ∃ m', m = m' + 1 := ⟨m - 1, by omega⟩
      have hi : i < n := by omega
      have ja := gp_n1 hi
      have nx := ih (i + 1) m (by omega) (by omega)
      rw [wX_onEdge_5]
      refine br_f (nI_ge (by omega) (by omega)) (gp_bb (fun c => ?_) (fun c => nm_r (nI_1 i) ?_))
      · refine gx_after h hi (gx_onLine h p hpi hi ja (gp_bb (fun o => nm_r (nI_1 i) ?_) (fun o => nm_r (nI_1 i) ?_)))
        · rw [gp_b_f] at nx
          · exact nx
          · rintro ⟨j, hj, z⟩
            by_cases q : j = i
            · rw [q] at z; exact o z
            · exact c ⟨j, by omega, z⟩
        · rw [gp_b_t ⟨i, by omega, o⟩] at nx; exact nx
      · obtain ⟨j, hj, z⟩ := c
        rw [gp_b_t ⟨j, by omega, z⟩] at nx; exact nx
  have l0 := loop n 0 (n + 1) (by omega) (by omega)
  rw [gp_b_f (fun z => by obtain ⟨j, hj, _⟩ := z; omega)] at l0
  unfold wpX_onEdge
  exact ⟨n + 1, l0⟩
def gp_wi (n : Nat) (P : Nat → Int × Int) (m : Int × Int) (i : Nat) : Int := gp_ws (P i) (P ((i + 1) % n)) m
theorem gx_winding (h : gp_at n P xs ys) (p : Int × Int) (hpi : gp_in p) {post : Int32 → Prop} (hp : post (gp_I (gp_sm (gp_wi n P p) n))) : wpX_winding post (nI n, fw, xs, ys, ln, wy, od, wr) (gp_I p.1) (gp_I p.2) := by
  have h10 := h.1
  have r0 : gp_rg 0 := gp_rg_s (by omega)
  have rp : gp_rg p.1 ∧ gp_rg p.2 := by unfold gp_in at hpi; unfold gp_rg; omega
  have loop : ∀ (d i m : Nat), i + d = n → d < m → wX_winding_5 post (gp_I p.1) (gp_I p.2) (nI n) fw xs ys ln wy od wr m (gp_I (gp_sm (gp_wi n P p) i)) (nI i) := by
    intro d
    induction d with
    | zero =>
      intro i m e dm
      obtain ⟨m, rfl⟩ : ∃ m', m = m' + 1 := ⟨m - 1, by omega⟩
      rw [wX_winding_5]
      refine br_t (nI_le (by omega) (by omega)) ?_
      rw [show i = n by omega]; exact hp
    | succ d ih =>
      intro i m e dm
      obtain ⟨m, rfl⟩ : ∃ m', m = m' + 1 := ⟨m - 1, by omega⟩
      have hi : i < n := by omega
      have ja := gp_n1 hi
      have nx := ih (i + 1) m (by omega) (by omega)
      have tg := gp_turn_g (gp_ri h hi) (gp_ri h ja) hpi
      rw [gp_sm_s] at nx
      have w88 : ∀ s : Int, (s - (if p.2 < (P i).2 ∧ (P ((i + 1) % n)).2 ≤ p.2 ∧ gp_turn (P i) (P ((i + 1) % n)) p < 0 then 1 else 0) = gp_sm (gp_wi n P p) i + gp_wi n P p i) →
          wX_winding_88 post (wX_winding_5 post (gp_I p.1) (gp_I p.2) (nI n) fw xs ys ln wy od wr m) (gp_I p.1) (gp_I p.2) (gp_I s) (nI i) (nI ((i + 1) % n)) (gp_I (gp_turn (P i) (P ((i + 1) % n)) p)) (nI n) fw xs ys ln wy od wr := by
        intro s es
        unfold wX_winding_88
        refine ⟨gp_vi h hi, ?_⟩
        rw [gp_ry h hi, gp_ry h ja]
        refine gp_ble _ _ rfl rfl (gp_rr h hi).2 rp.2 (fun c => nm_r (nI_1 i) ?_) (fun c => ⟨gp_vi h ja, ?_⟩)
        · rw [if_neg (by omega)] at es; rw [show s = gp_sm (gp_wi n P p) i + gp_wi n P p i by omega]; exact nx
        · refine gp_blt _ _ rfl rfl rp.2 (gp_rr h ja).2 (fun c2 => nm_r (nI_1 i) ?_) (fun c2 => ?_)
          · rw [if_neg (by omega)] at es; rw [show s = gp_sm (gp_wi n P p) i + gp_wi n P p i by omega]; exact nx
          · refine gp_ble 0 _ rfl rfl r0 tg (fun c3 => nm_r (nI_1 i) ?_) (fun c3 => nm_r (e' := gp_I (s - 1)) ?_ (nm_r (nI_1 i) ?_))
            · rw [if_neg (by omega)] at es; rw [show s = gp_sm (gp_wi n P p) i + gp_wi n P p i by omega]; exact nx
            · rw [gp_I_m1, ← gp_I_add]; rfl
            · rw [if_pos (by omega)] at es; rw [show s - 1 = gp_sm (gp_wi n P p) i + gp_wi n P p i by omega]; exact nx
      have wd : gp_wi n P p i = (if (P i).2 ≤ p.2 ∧ p.2 < (P ((i + 1) % n)).2 ∧ 0 < gp_turn (P i) (P ((i + 1) % n)) p then 1 else 0) - (if p.2 < (P i).2 ∧ (P ((i + 1) % n)).2 ≤ p.2 ∧ gp_turn (P i) (P ((i + 1) % n)) p < 0 then 1 else 0) := rfl
      rw [wX_winding_5]
      refine br_f (nI_ge (by omega) (by omega)) (gx_after h hi ⟨gp_vi h hi, gp_vi h hi, gp_vi h ja, gp_vi h ja, ?_⟩)
      rw [gp_rx h hi, gp_rx h ja, gp_ry h hi, gp_ry h ja]
      refine gx_turn _ _ _ _ _ _ ⟨gp_vi h hi, ?_⟩
      refine gp_blt _ _ rfl rfl rp.2 (gp_rr h hi).2 (fun c => w88 _ ?_) (fun c => ⟨gp_vi h ja, ?_⟩)
      · rw [wd, if_neg (show ¬ ((P i).2 ≤ p.2 ∧ p.2 < (P ((i + 1) % n)).2 ∧ 0 < gp_turn (P i) (P ((i + 1) % n)) p) by omega)]; omega
      · refine gp_ble _ _ rfl rfl (gp_rr h ja).2 rp.2 (fun c2 => w88 _ ?_) (fun c2 => ?_)
        · rw [wd, if_neg (show ¬ ((P i).2 ≤ p.2 ∧ p.2 < (P ((i + 1) % n)).2 ∧ 0 < gp_turn (P i) (P ((i + 1) % n)) p) by omega)]; omega
        · refine gp_ble _ 0 rfl rfl tg r0 (fun c3 => w88 _ ?_) (fun c3 => nm_r (e' := gp_I (gp_sm (gp_wi n P p) i + 1)) ?_ (w88 _ ?_))
          · have c3' : gp_turn (P i) (P ((i + 1) % n)) p ≤ 0 := c3
            rw [wd, if_neg (show ¬ ((P i).2 ≤ p.2 ∧ p.2 < (P ((i + 1) % n)).2 ∧ 0 < gp_turn (P i) (P ((i + 1) % n)) p) by omega)]; omega
          · rw [gp_I_add]; rfl
          · have c3' : ¬ gp_turn (P i) (P ((i + 1) % n)) p ≤ 0 := c3
            rw [wd, if_pos (show (P i).2 ≤ p.2 ∧ p.2 < (P ((i + 1) % n)).2 ∧ 0 < gp_turn (P i) (P ((i + 1) % n)) p by omega)]; omega
  unfold wpX_winding
  exact ⟨n + 1, loop n 0 (n + 1) (by omega) (by omega)⟩
theorem gp_wi_r : ∀ (m : Int × Int) (i : Nat), -(i : Int) ≤ gp_sm (gp_wi n P m) i ∧ gp_sm (gp_wi n P m) i ≤ i := by
  intro m i
  induction i with
  | zero => rw [gp_sm_0]; omega
  | succ i ih =>
    rw [gp_sm_s]
    have : -1 ≤ gp_wi n P m i ∧ gp_wi n P m i ≤ 1 := by
      unfold gp_wi gp_ws
      repeat' split
      all_goals omega
    omega
/-- X's answer of where, for a point k -/
noncomputable def gp_whX (n : Nat) (P : Nat → Int × Int) (k : Nat) : Int32 := @ite Int32 (∃ i, i < n ∧ gp_os (gp_nn (k % 16) (k / 16)) (P i) (P ((i + 1) % n))) (Classical.propDecidable _) 0 (if gp_sm (gp_wi n P (gp_nn (k % 16) (k / 16))) n = 0 then -1 else 1)
theorem gx_where (h : gp_at n P xs ys) (p0 : Int32) {post : Int32 → Prop} (h0 : (¬ gp_PX n P ∨ ∀ k, k < 256 → p0 ≠ nI k) → post (-1000))
    (h1 : gp_PX n P → ∀ k, k < 256 → p0 = nI k → post (gp_whX n P k)) : wpX_where post (nI n, fw, xs, ys, ln, wy, od, wr) p0 := by
  have h10 := h.1
  unfold wpX_where
  refine gx_badPoint p0 (fun c => br_f gp_one_ne ?_) (fun k hk e => br_t rfl (gx_isProper h (gp_bb (fun c => ?_) (fun c => ?_))))
  · unfold wX_where_19 wX_where_20
    exact br_t rfl (h0 (Or.inr c))
  · unfold wX_where_19 wX_where_20
    exact br_t rfl (h0 (Or.inl c))
  · unfold wX_where_20
    subst e
    have e1 : nI k &&& 15 = gp_I (gp_nn (k % 16) (k / 16)).1 := by
      rw [pk_andN (by omega) 4 (by decide), gp_nI]; rfl
    have e2 : nI k >>> ((4 : Int32) &&& 31) = gp_I (gp_nn (k % 16) (k / 16)).2 := by
      rw [pk_shrN (by omega) _ 4 (by decide), gp_nI]; rfl
    have ip : gp_in (gp_nn (k % 16) (k / 16)) := by unfold gp_in gp_nn; dsimp only; omega
    have hp := h1 c k hk rfl
    refine br_f gp_one_ne (nm_r e1 (nm_r e2 (gx_onEdge h _ ip (gp_bb (fun o => gx_winding h _ ip ?_) (fun o => ?_)))))
    · unfold gp_whX at hp
      rw [if_neg o] at hp
      have rw' := gp_wi_r (n := n) (P := P) (gp_nn (k % 16) (k / 16)) n
      refine gp_beq _ 0 rfl rfl (gp_rg_s (by omega)) (gp_rg_s (by omega)) (fun z => ?_) (fun z => ?_)
      · rw [if_pos z] at hp; exact hp
      · rw [if_neg z] at hp; exact hp
    · unfold gp_whX at hp
      rw [if_pos o] at hp; exact hp
def gp_tn (n : Nat) (P : Nat → Int × Int) (i : Nat) : Int := gp_turn (P ((i + n - 1) % n)) (P i) (P ((i + 1) % n))
def gp_cvX (n : Nat) (P : Nat → Int × Int) : Prop := gp_PX n P ∧ ¬ ((∃ i, i < n ∧ 0 < gp_tn n P i) ∧ (∃ i, i < n ∧ gp_tn n P i < 0))
theorem gp_ex_s {Q : Nat → Prop} {i : Nat} : (∃ j, j < i + 1 ∧ Q j) ↔ (∃ j, j < i ∧ Q j) ∨ Q i := by
  constructor
  · rintro ⟨j, hj, q⟩
    by_cases e : j = i
    · subst e; exact Or.inr q
    · exact Or.inl ⟨j, by omega, q⟩
  · rintro (⟨j, hj, q⟩ | q)
    · exact ⟨j, by omega, q⟩
    · exact ⟨i, by omega, q⟩
theorem gx_convex (h : gp_at n P xs ys) {post : Int32 → Prop} (hp : post (gp_b (gp_cvX n P))) : wpX_convex post (nI n, fw, xs, ys, ln, wy, od, wr) := by
  have h10 := h.1
  have r0 : gp_rg 0 := gp_rg_s (by omega)
  have w81 : ∀ A B C : Prop, (gp_cvX n P ↔ A ∧ ¬ (B ∧ C)) → wX_convex_81 post (gp_b A) (gp_b B) (gp_b C) (nI n) fw xs ys ln wy od wr := by
    intro A B C e
    unfold wX_convex_81
    refine gp_bb (fun a => gp_pf hp fun z => a (e.mp z).1) (fun a => gp_bb (fun b => gp_pt hp (e.mpr ⟨a, fun z => b z.1⟩)) (fun b => gp_bb (fun c => gp_pt hp (e.mpr ⟨a, fun z => c z.2⟩)) (fun c => gp_pf hp fun z => (e.mp z).2 ⟨b, c⟩)))
  have loop : ∀ (d i m : Nat), i + d = n → d < m → wX_convex_12 post (gp_b (gp_PX n P)) (nI n) fw xs ys ln wy od wr m (gp_b (∃ j, j < i ∧ 0 < gp_tn n P j)) (gp_b (∃ j, j < i ∧ gp_tn n P j < 0)) (nI i) := by
    intro d
    induction d with
    | zero =>
      intro i m e dm
      obtain ⟨m, rfl⟩ : ∃ m', m = m' + 1 := ⟨m - 1, by omega⟩
      rw [wX_convex_12]
      refine br_t (nI_le (by omega) (by omega)) (w81 _ _ _ ?_)
      rw [show i = n by omega]; exact Iff.rfl
    | succ d ih =>
      intro i m e dm
      obtain ⟨m, rfl⟩ : ∃ m', m = m' + 1 := ⟨m - 1, by omega⟩
      have hi : i < n := by omega
      have ja := gp_n1 hi
      have hb := gp_n2 hi
      have nx := ih (i + 1) m (by omega) (by omega)
      have tg : gp_rg (gp_tn n P i) := gp_turn_g (gp_ri h hb) (gp_ri h hi) (gp_ri h ja)
      have w59 : ∀ L : Prop, (L ↔ ∃ j, j < i + 1 ∧ 0 < gp_tn n P j) → wX_convex_59 post (wX_convex_12 post (gp_b (gp_PX n P)) (nI n) fw xs ys ln wy od wr m) (gp_b (gp_PX n P)) (gp_b (∃ j, j < i ∧ gp_tn n P j < 0)) (nI i) (gp_I (gp_tn n P i)) (gp_b L) (nI n) fw xs ys ln wy od wr := by
        intro L eL
        rw [← gp_b_c eL] at nx
        unfold wX_convex_59
        refine gp_bb (fun c => gp_ble 0 _ rfl rfl r0 tg (fun z => nm_r (nI_1 i) ?_) (fun z => nm_r (nI_1 i) ?_)) (fun c => nm_r (nI_1 i) ?_)
        · rw [gp_b_f (c := ∃ j, j < i + 1 ∧ gp_tn n P j < 0) (fun q => by rcases gp_ex_s.mp q with q | q; exact c q; omega)] at nx; exact nx
        · rw [gp_b_t (gp_ex_s.mpr (Or.inr (by omega)))] at nx; exact nx
        · rw [gp_b_t (gp_ex_s.mpr (Or.inl c))] at nx; exact nx
      have w54 : (∃ j, j < i + 1 ∧ 0 < gp_tn n P j) → wX_convex_54 post (wX_convex_12 post (gp_b (gp_PX n P)) (nI n) fw xs ys ln wy od wr m) (gp_b (gp_PX n P)) (gp_b (∃ j, j < i ∧ gp_tn n P j < 0)) (nI i) (gp_I (gp_tn n P i)) (nI n) fw xs ys ln wy od wr := by
        intro c
        have := w59 True ⟨fun _ => c, fun _ => trivial⟩
        rw [gp_b_t trivial] at this
        unfold wX_convex_54; exact this
      rw [wX_convex_12]
      refine br_f (nI_ge (by omega) (by omega)) (gp_bb (fun c => ?_) (fun c => ?_))
      · have := w81 (gp_PX n P) (∃ j, j < i ∧ 0 < gp_tn n P j) (∃ j, j < i ∧ gp_tn n P j < 0) ⟨fun z => absurd z.1 c, fun z => absurd z.1 c⟩
        exact this
      · refine gx_before h hi (gx_after h hi (gx_turnOf h hb hi ja (gp_bb (fun l => ?_) (fun l => w54 (gp_ex_s.mpr (Or.inl l))))))
        refine gp_ble _ 0 rfl rfl tg r0 (fun z => ?_) (fun z => w54 (gp_ex_s.mpr (Or.inr ?_)))
        · have := w59 False ⟨fun q => q.elim, fun q => by rcases gp_ex_s.mp q with q | q; exact l q; exact absurd q (by unfold gp_tn; omega)⟩
          rw [gp_b_f (fun q => q)] at this; exact this
        · unfold gp_tn; omega
  unfold wpX_convex
  have l0 := loop n 0 (n + 1) (by omega) (by omega)
  rw [gp_b_f (c := ∃ j, j < 0 ∧ 0 < gp_tn n P j) (fun z => by obtain ⟨j, hj, _⟩ := z; omega), gp_b_f (c := ∃ j, j < 0 ∧ gp_tn n P j < 0) (fun z => by obtain ⟨j, hj, _⟩ := z; omega)] at l0
  exact gx_isProper h ⟨n + 1, l0⟩
/-- the widest pair -/
def gp_ds (P : Nat → Int × Int) (i k : Nat) : Int := ((P i).1 - (P k).1) * ((P i).1 - (P k).1) + ((P i).2 - (P k).2) * ((P i).2 - (P k).2)
theorem gp_ds_sw (P : Nat → Int × Int) (i k : Nat) : gp_ds P i k = gp_ds P k i := by unfold gp_ds; grind
theorem gp_ds_r (h : gp_at n P xs ys) {i k : Nat} (hi : i < n) (hk : k < n) : 0 ≤ gp_ds P i k ∧ gp_ds P i k ≤ 8192 := by
  have a := gp_rb h hi
  have b := gp_rb h hk
  unfold gp_ds
  have := gp_mulb (a := (P i).1 - (P k).1) (b := (P i).1 - (P k).1) (by omega) (by omega)
  have := gp_mulb (a := (P i).2 - (P k).2) (b := (P i).2 - (P k).2) (by omega) (by omega)
  have s1 := gp_sgn ((P i).1 - (P k).1) ((P i).1 - (P k).1)
  have s2 := gp_sgn ((P i).2 - (P k).2) ((P i).2 - (P k).2)
  omega
/-- v is the greatest over the pairs S, or -1000 if there are none -/
def gp_mx (P : Nat → Int × Int) (S : Nat → Nat → Prop) (v : Int) : Prop := (∀ i k, S i k → gp_ds P i k ≤ v) ∧ (v = -1000 ∨ ∃ i k, S i k ∧ gp_ds P i k = v)
theorem gp_mx_add {S T : Nat → Nat → Prop} {v : Int} {i k : Nat} (h : gp_mx P S v) (hT : ∀ a b, T a b ↔ S a b ∨ (a = i ∧ b = k)) : gp_mx P T (if gp_ds P i k ≤ v then v else gp_ds P i k) := by
  by_cases c : gp_ds P i k ≤ v
  · rw [if_pos c]
    refine ⟨fun a b t => ?_, h.2.elim Or.inl fun ⟨a, b, s, e⟩ => Or.inr ⟨a, b, (hT a b).mpr (Or.inl s), e⟩⟩
    rcases (hT a b).mp t with s | ⟨rfl, rfl⟩
    · exact h.1 a b s
    · exact c
  · rw [if_neg c]
    refine ⟨fun a b t => ?_, Or.inr ⟨i, k, (hT i k).mpr (Or.inr ⟨rfl, rfl⟩), rfl⟩⟩
    rcases (hT a b).mp t with s | ⟨rfl, rfl⟩
    · have := h.1 a b s; omega
    · omega
theorem gp_mx_c {S T : Nat → Nat → Prop} {v : Int} (h : gp_mx P S v) (hT : ∀ a b, T a b ↔ S a b) : gp_mx P T v := by
  refine ⟨fun a b t => h.1 a b ((hT a b).mp t), h.2.elim Or.inl fun ⟨a, b, s, e⟩ => Or.inr ⟨a, b, (hT a b).mpr s, e⟩⟩
theorem gp_mx_r (h : gp_at n P xs ys) {S : Nat → Nat → Prop} {v : Int} (hv : gp_mx P S v) (hS : ∀ a b, S a b → a < n ∧ b < n) : -1000 ≤ v ∧ v ≤ 8192 := by
  rcases hv.2 with e | ⟨i, k, s, e⟩
  · omega
  · have := gp_ds_r h (hS i k s).1 (hS i k s).2
    omega
theorem gp_mx_uni (h : gp_at n P xs ys) {S T : Nat → Nat → Prop} {v w : Int} (hS : ∀ a b, S a b → a < n ∧ b < n) (hT : ∀ a b, T a b → a < n ∧ b < n) (hST : ∀ a b, S a b ↔ T b a) (hv : gp_mx P S v) (hw : gp_mx P T w) : v = w := by
  have a : v ≤ w := by
    rcases hv.2 with e | ⟨i, k, s, e⟩
    · have := gp_mx_r h hw hT; omega
    · rw [← e, gp_ds_sw]; exact hw.1 k i ((hST i k).mp s)
  have b : w ≤ v := by
    rcases hw.2 with e | ⟨i, k, s, e⟩
    · have := gp_mx_r h hv hS; omega
    · rw [← e, gp_ds_sw]; exact hv.1 k i ((hST k i).mpr s)
  omega
theorem gx_widest (h : gp_at n P xs ys) {post : Int32 → Prop} (hp : ∀ v, gp_mx P (fun a b => a < b ∧ b < n) v → post (gp_I v)) : wpX_widest post (nI n, fw, xs, ys, ln, wy, od, wr) := by
  have h10 := h.1
  have inner : ∀ (J6 : Int32 → Int32 → Prop) (i : Nat), i < n → (∀ v, gp_mx P (fun a b => a < b ∧ b < n ∧ a < i + 1) v → J6 (gp_I v) (nI (i + 1))) → ∀ (d k m : Nat) (v : Int), k + d = n → i < k → d < m → gp_mx P (fun a b => a < b ∧ b < n ∧ (a < i ∨ (a = i ∧ b < k))) v → wX_widest_18 post J6 (nI i) (nI n) fw xs ys ln wy od wr m (gp_I v) (nI k) := by
    intro J6 i hi hJ d
    induction d with
    | zero =>
      intro k m v e ik dm hv
      obtain ⟨m, rfl⟩ : ∃ m', m = m' + 1 := ⟨m - 1, by omega⟩
      rw [wX_widest_18]
      exact br_t (nI_le (by omega) (by omega)) (nm_r (nI_1 i) (hJ v (gp_mx_c hv fun a b => by omega)))
    | succ d ih =>
      intro k m v e ik dm hv
      obtain ⟨m, rfl⟩ : ∃ m', m = m' + 1 := ⟨m - 1, by omega⟩
      have hk : k < n := by omega
      have rd := gp_ds_r h hi hk
      have rv := gp_mx_r h hv (fun a b s => by omega)
      have nx := ih (k + 1) m _ (by omega) (by omega) (by omega) (gp_mx_add (i := i) (k := k) hv (T := fun a b => a < b ∧ b < n ∧ (a < i ∨ (a = i ∧ b < k + 1))) (fun a b => by omega))
      rw [wX_widest_18]
      refine br_f (nI_ge (by omega) (by omega)) ⟨gp_vi h hi, gp_vi h hk, ?_⟩
      rw [gp_rx h hi, gp_rx h hk, gp_ry h hi, gp_ry h hk]
      refine nm_r (gp_I_sub _ _).symm ⟨gp_vi h hi, gp_vi h hk, nm_r (gp_I_sub _ _).symm (nm_r (e' := gp_I (gp_ds P i k)) ?_ ?_)⟩
      · rw [← gp_I_mul, ← gp_I_mul, ← gp_I_add]; rfl
      · refine gp_ble _ _ rfl rfl (gp_rg_s (by omega)) (gp_rg_s (by omega)) (fun c => nm_r (nI_1 k) ?_) (fun c => nm_r (nI_1 k) ?_)
        · rw [if_pos c] at nx; exact nx
        · rw [if_neg c] at nx; exact nx
  have outer : ∀ (d i m : Nat) (v : Int), i + d = n → d < m → gp_mx P (fun a b => a < b ∧ b < n ∧ a < i) v → wX_widest_6 post (nI n) fw xs ys ln wy od wr m (gp_I v) (nI i) := by
    intro d
    induction d with
    | zero =>
      intro i m v e dm hv
      obtain ⟨m, rfl⟩ : ∃ m', m = m' + 1 := ⟨m - 1, by omega⟩
      rw [wX_widest_6]
      exact br_t (nI_le (by omega) (by omega)) (hp v (gp_mx_c hv fun a b => by omega))
    | succ d ih =>
      intro i m v e dm hv
      obtain ⟨m, rfl⟩ : ∃ m', m = m' + 1 := ⟨m - 1, by omega⟩
      rw [wX_widest_6]
      refine br_f (nI_ge (by omega) (by omega)) (nm_r (nI_1 i) ⟨n + 1, ?_⟩)
      exact inner _ i (by omega) (fun w hw => ih (i + 1) m w (by omega) (by omega) hw) (n - (i + 1)) (i + 1) (n + 1) v (by omega) (by omega) (by omega) (gp_mx_c hv fun a b => by omega)
  unfold wpX_widest
  exact ⟨n + 1, outer n 0 (n + 1) (-1000) (by omega) (by omega) ⟨fun a b s => by omega, Or.inl rfl⟩⟩
end
end
section
/-! Y: turns, meeting lines, proper polygons -/
theorem gp_bt_mul (v a b : Int) : (v - a) * (v - b) ≤ 0 ↔ gp_bt v a b := by
  have s := gp_sgn (v - a) (v - b)
  unfold gp_bt
  omega
theorem gp_bbe {A B X Y : Prop} (f : (A ↔ B) → X) (g : ¬ (A ↔ B) → Y) : (gp_b A = gp_b B → X) ∧ (¬ gp_b A = gp_b B → Y) := by
  by_cases a : A <;> by_cases b : B
  · rw [gp_b_t a, gp_b_t b]; exact ⟨fun _ => f ⟨fun _ => b, fun _ => a⟩, fun z => absurd rfl z⟩
  · rw [gp_b_t a, gp_b_f b]; exact ⟨fun z => absurd z (by decide), fun _ => g fun e => b (e.mp a)⟩
  · rw [gp_b_f a, gp_b_t b]; exact ⟨fun z => absurd z (by decide), fun _ => g fun e => a (e.mpr b)⟩
  · rw [gp_b_f a, gp_b_f b]; exact ⟨fun _ => f ⟨fun z => absurd z a, fun z => absurd z b⟩, fun z => absurd rfl z⟩
theorem gp_md {a n : Nat} (ha : a < 100000) (h0 : 0 < n) (hn : n ≤ 10) : nI a - nI a / nI n * nI n = nI (a % n) := pk_rem (by omega) h0 (by omega)
def gp_PY (n : Nat) (P : Nat → Int × Int) : Prop := 3 ≤ n ∧ (∀ i, i < n → ∀ k, k < i → ¬ P i = P k ∧ (k + 1 ≠ i → ¬ (k = 0 ∧ i + 1 = n) → ¬ gp_meet (P i) (P ((i + 1) % n)) (P k) (P (k + 1)))) ∧ ∀ i, i < n → ¬ gp_fold (P ((i + n - 1) % n)) (P i) (P ((i + 1) % n))
section
variable {n : Nat} {P : Nat → Int × Int} {pc : Int32} {xs ys kx ky pr cn : Nat → Int32}
theorem gy_turn (p0 p1 p2 p3 p4 p5 : Int) (hg : gp_rg (gp_turn (p0, p1) (p2, p3) (p4, p5))) {post : Int32 → Prop} (hp : post (gp_I (gp_turn (p0, p1) (p2, p3) (p4, p5)).sign)) :
    wpY_turn post (nI n, pc, xs, ys, kx, ky, pr, cn) (gp_I p0) (gp_I p1) (gp_I p2) (gp_I p3) (gp_I p4) (gp_I p5) := by
  unfold wpY_turn
  have r0 : gp_rg 0 := gp_rg_s (by omega)
  refine nm_r (e' := gp_I (gp_turn (p0, p1) (p2, p3) (p4, p5))) ?_ ?_
  · simp only [← gp_I_sub, ← gp_I_mul]
    refine congrArg gp_I ?_
    unfold gp_turn
    dsimp only
    grind
  · refine gp_ble _ 0 rfl rfl hg r0 (fun c => gp_ble 0 _ rfl rfl r0 hg (fun d => ?_) (fun d => ?_)) (fun c => ?_)
    · rw [show gp_turn (p0, p1) (p2, p3) (p4, p5) = 0 by omega] at hp; exact hp
    · rw [Int.sign_eq_neg_one_of_neg (by omega)] at hp; exact hp
    · rw [Int.sign_eq_one_of_pos (by omega)] at hp; exact hp
theorem gy_turnOf (h : gp_at n P xs ys) {i j k : Nat} (hi : i < n) (hj : j < n) (hk : k < n) {post : Int32 → Prop} (hp : post (gp_I (gp_turn (P i) (P j) (P k)).sign)) :
    wpY_turnOf post (nI n, pc, xs, ys, kx, ky, pr, cn) (nI i) (nI j) (nI k) := by
  unfold wpY_turnOf
  refine ⟨gp_vi h hi, gp_vi h hi, gp_vi h hj, gp_vi h hj, gp_vi h hk, gp_vi h hk, ?_⟩
  rw [gp_rx h hi, gp_rx h hj, gp_rx h hk, gp_ry h hi, gp_ry h hj, gp_ry h hk]
  exact gy_turn _ _ _ _ _ _ (gp_turn_g (gp_ri h hi) (gp_ri h hj) (gp_ri h hk)) hp
theorem gp_sg_g (v : Int) : gp_rg v.sign := by
  have := gp_sign_r v
  exact gp_rg_s (by omega)
theorem gp_sg_0 (v : Int) : v.sign = 0 ↔ v = 0 := Int.sign_eq_zero_iff_zero
theorem gy_isBetween (h : gp_at n P xs ys) {i k p : Nat} (hi : i < n) (hk : k < n) (hpn : p < n) {post : Int32 → Prop} (hp : post (gp_b (gp_os (P p) (P i) (P k)))) :
    wpY_isBetween post (nI n, pc, xs, ys, kx, ky, pr, cn) (nI i) (nI k) (nI p) := by
  have bi := gp_rb h hi
  have bk := gp_rb h hk
  have bp := gp_rb h hpn
  have r0 : gp_rg 0 := gp_rg_s (by omega)
  have m1 := gp_mulb (a := (P p).1 - (P i).1) (b := (P p).1 - (P k).1) (by omega) (by omega)
  have m2 := gp_mulb (a := (P p).2 - (P i).2) (b := (P p).2 - (P k).2) (by omega) (by omega)
  have t1 := gp_bt_mul (P p).1 (P i).1 (P k).1
  have t2 := gp_bt_mul (P p).2 (P i).2 (P k).2
  have w72 : ∀ A B : Prop, (A ↔ gp_bt (P p).1 (P i).1 (P k).1) → (B ↔ gp_bt (P p).2 (P i).2 (P k).2) → wY_isBetween_72 post (nI i) (nI k) (nI p) (gp_b A) (gp_b B) (nI n) pc xs ys kx ky pr cn := by
    intro A B ea eb
    unfold wY_isBetween_72
    refine gp_bb (fun a => gp_pf hp fun z => a (ea.mpr z.2.1)) (fun a => gp_bb (fun b => gp_pf hp fun z => b (eb.mpr z.2.2)) (fun b => ?_))
    exact gy_turnOf h hi hk hpn (gp_beq _ 0 rfl rfl (gp_sg_g _) r0 (fun c => gp_pt hp ⟨(gp_sg_0 _).mp c, ea.mp a, eb.mp b⟩) (fun c => gp_pf hp fun z => c ((gp_sg_0 _).mpr z.1)))
  have w35 : ∀ A : Prop, (A ↔ gp_bt (P p).1 (P i).1 (P k).1) → wY_isBetween_35 post (nI i) (nI k) (nI p) (gp_b A) (nI n) pc xs ys kx ky pr cn := by
    intro A ea
    unfold wY_isBetween_35
    refine ⟨gp_vi h hpn, gp_vi h hi, gp_vi h hpn, gp_vi h hk, ?_⟩
    rw [gp_ry h hi, gp_ry h hk, gp_ry h hpn, ← gp_I_sub, ← gp_I_sub, ← gp_I_mul]
    refine gp_blt 0 _ rfl rfl r0 (gp_rg_s (by omega)) (fun c => ?_) (fun c => ?_)
    · have := w72 A False ea ⟨fun z => z.elim, fun z => by have := t2.mpr z; omega⟩
      rw [gp_b_f (fun z => z)] at this; exact this
    · have := w72 A True ea ⟨fun _ => t2.mp (by omega), fun _ => trivial⟩
      rw [gp_b_t trivial] at this; exact this
  unfold wpY_isBetween
  refine ⟨gp_vi h hpn, gp_vi h hi, gp_vi h hpn, gp_vi h hk, ?_⟩
  rw [gp_rx h hi, gp_rx h hk, gp_rx h hpn, ← gp_I_sub, ← gp_I_sub, ← gp_I_mul]
  refine gp_blt 0 _ rfl rfl r0 (gp_rg_s (by omega)) (fun c => ?_) (fun c => ?_)
  · have := w35 False ⟨fun z => z.elim, fun z => by have := t1.mpr z; omega⟩
    rw [gp_b_f (fun z => z)] at this; exact this
  · have := w35 True ⟨fun _ => t1.mp (by omega), fun _ => trivial⟩
    rw [gp_b_t trivial] at this; exact this
theorem gy_meet (h : gp_at n P xs ys) {i j k l : Nat} (hi : i < n) (hj : j < n) (hk : k < n) (hl : l < n) {post : Int32 → Prop} (hp : post (gp_b (gp_meet (P i) (P j) (P k) (P l)))) :
    wpY_meet post (nI n, pc, xs, ys, kx, ky, pr, cn) (nI i) (nI j) (nI k) (nI l) := by
  have r0 : gp_rg 0 := gp_rg_s (by omega)
  have m1 := gp_sign_mul (gp_turn (P i) (P j) (P k)) (gp_turn (P i) (P j) (P l))
  have m2 := gp_sign_mul (gp_turn (P k) (P l) (P i)) (gp_turn (P k) (P l) (P j))
  unfold wpY_meet
  refine gy_isBetween h hi hj hk (gp_bb (fun o1 => ?_) (fun o => gp_pt hp (Or.inr (Or.inl o))))
  refine gy_isBetween h hi hj hl (gp_bb (fun o2 => ?_) (fun o => gp_pt hp (Or.inr (Or.inr (Or.inl o)))))
  refine gy_isBetween h hk hl hi (gp_bb (fun o3 => ?_) (fun o => gp_pt hp (Or.inr (Or.inr (Or.inr (Or.inl o))))))
  refine gy_isBetween h hk hl hj (gp_bb (fun o4 => ?_) (fun o => gp_pt hp (Or.inr (Or.inr (Or.inr (Or.inr o))))))
  have no : ¬ (gp_turn (P i) (P j) (P k) * gp_turn (P i) (P j) (P l) < 0 ∧ gp_turn (P k) (P l) (P i) * gp_turn (P k) (P l) (P j) < 0) → post 0 := fun c => gp_pf hp (by
    rintro (q | q | q | q | q)
    · exact c q
    · exact o1 q
    · exact o2 q
    · exact o3 q
    · exact o4 q)
  refine gy_turnOf h hi hj hk (gy_turnOf h hi hj hl ?_)
  refine gp_ble 0 _ rfl (gp_I_mul _ _).symm r0 (gp_rg_s (by omega)) (fun c => no (by omega)) (fun c => ?_)
  refine gy_turnOf h hk hl hi (gy_turnOf h hk hl hj ?_)
  exact gp_ble 0 _ rfl (gp_I_mul _ _).symm r0 (gp_rg_s (by omega)) (fun d => no (by omega)) (fun d => gp_pt hp (Or.inl ⟨by omega, by omega⟩))
theorem gy_isFolded (h : gp_at n P xs ys) {i : Nat} (hi : i < n) {post : Int32 → Prop} (hp : post (gp_b (gp_fold (P ((i + n - 1) % n)) (P i) (P ((i + 1) % n))))) : wpY_isFolded post (nI n, pc, xs, ys, kx, ky, pr, cn) (nI i) := by
  have h10 := h.1
  have ja := gp_n1 hi
  have hb := gp_n2 hi
  have b1 := gp_rb h hi
  have b2 := gp_rb h ja
  have b3 := gp_rb h hb
  have r0 : gp_rg 0 := gp_rg_s (by omega)
  have n0 : ¬ nI n = 0 := nI_ne0 (by omega) (by omega)
  have e1 : (nI i + 1) - (nI i + 1) / nI n * nI n = nI ((i + 1) % n) := by rw [nI_1]; exact gp_md (by omega) (by omega) h10
  have e2 : ((nI i + nI n) - 1) - ((nI i + nI n) - 1) / nI n * nI n = nI ((i + n - 1) % n) := by
    rw [nI_add, show i + n = i + n - 1 + 1 by omega, nI_pred, show i + n - 1 + 1 - 1 = i + n - 1 by omega]; exact gp_md (by omega) (by omega) h10
  have m1 := gp_mulb (a := (P ((i + 1) % n)).1 - (P i).1) (b := (P ((i + n - 1) % n)).1 - (P i).1) (by omega) (by omega)
  have m2 := gp_mulb (a := (P ((i + 1) % n)).2 - (P i).2) (b := (P ((i + n - 1) % n)).2 - (P i).2) (by omega) (by omega)
  unfold wpY_isFolded
  refine ⟨n0, nm_r e1 ⟨n0, nm_r e2 ⟨gp_vi h ja, gp_vi h hi, gp_vi h hb, gp_vi h hi, gp_vi h ja, gp_vi h hi, gp_vi h hb, gp_vi h hi, ?_⟩⟩⟩
  rw [gp_rx h hi, gp_rx h ja, gp_rx h hb, gp_ry h hi, gp_ry h ja, gp_ry h hb]
  simp only [← gp_I_sub, ← gp_I_mul, ← gp_I_add]
  refine nm_e (gy_turnOf h hb hi ja (gp_beq _ 0 rfl rfl (gp_sg_g _) r0 (fun c => ?_) (fun c => gp_pf hp fun z => c ((gp_sg_0 _).mpr z.1))))
  exact gp_ble _ 0 rfl rfl (gp_rg_s (by omega)) r0 (fun d => gp_pf hp fun z => by have := z.2; omega) (fun d => gp_pt hp ⟨(gp_sg_0 _).mp c, by omega⟩)
/-- what the reference asks of two corners -/
def gp_c1 (n : Nat) (P : Nat → Int × Int) (i k : Nat) : Prop := ¬ P i = P k ∧ (k + 1 ≠ i → ¬ (k = 0 ∧ i + 1 = n) → ¬ gp_meet (P i) (P ((i + 1) % n)) (P k) (P (k + 1)))
theorem gy_ip12 (h : gp_at n P xs ys) {i : Nat} (hi : i < n) {post : Int32 → Prop} {J2 : Int32 → Prop} : ∀ (d k m : Nat), k + d = i → d < m →
    ((∀ k', k ≤ k' → k' < i → gp_c1 n P i k') → J2 (nI (i + 1))) → ((∃ k', k' < i ∧ ¬ gp_c1 n P i k') → post 0) → wY_isProper_12 post J2 (nI i) (nI n) pc xs ys kx ky pr cn m (nI k) := by
  have h10 := h.1
  have ja := gp_n1 hi
  have n0 : ¬ nI n = 0 := nI_ne0 (by omega) (by omega)
  intro d
  induction d with
  | zero =>
    intro k m e dm hJ hp
    obtain ⟨m, rfl⟩ : ∃ m', m = m' + 1 := ⟨m - 1, by omega⟩
    rw [wY_isProper_12]
    exact br_t (nI_le (by omega) (by omega)) (nm_r (nI_1 i) (hJ fun k' a b => by omega))
  | succ d ih =>
    intro k m e dm hJ hp
    obtain ⟨m, rfl⟩ : ∃ m', m = m' + 1 := ⟨m - 1, by omega⟩
    have hk : k < n := by omega
    have hk1 : k + 1 < n := by omega
    have step : gp_c1 n P i k → wY_isProper_12 post J2 (nI i) (nI n) pc xs ys kx ky pr cn m (nI (k + 1)) := fun c => ih (k + 1) m (by omega) (by omega) (fun z => hJ fun k' a b => by
      by_cases q : k' = k
      · subst q; exact c
      · exact z k' (by omega) b) hp
    have stop : ¬ gp_c1 n P i k → post 0 := fun c => hp ⟨k, by omega, c⟩
    have w79 : ∀ N S : Prop, (N ↔ (k + 1 = i ∨ (k = 0 ∧ i + 1 = n))) → (S ↔ P i = P k) → wY_isProper_79 post J2 (wY_isProper_12 post J2 (nI i) (nI n) pc xs ys kx ky pr cn m) (nI i) (nI k) (gp_b N) (gp_b S) (nI n) pc xs ys kx ky pr cn := by
      intro N S eN eS
      unfold wY_isProper_79
      refine gp_bb (fun s => gp_bb (fun t => ⟨n0, ?_⟩) (fun t => nm_r (nI_1 k) (step ⟨fun q => s (eS.mpr q), fun a b => ?_⟩))) (fun s => stop fun z => z.1 (eS.mp s))
      · rw [nI_1 i, gp_md (a := i + 1) (by omega) (by omega) h10, nI_1 k]
        refine gy_meet h hi ja hk hk1 (gp_bb (fun mm => nm_e (step ⟨fun q => s (eS.mpr q), fun _ _ => mm⟩)) (fun mm => stop fun z => z.2 (fun q => t (eN.mpr (Or.inl q))) (fun q => t (eN.mpr (Or.inr q))) mm))
      · rcases eN.mp t with q | q
        · exact absurd q a
        · exact absurd q b
    have w78 : ∀ N : Prop, (N ↔ (k + 1 = i ∨ (k = 0 ∧ i + 1 = n))) → ¬ P i = P k → wY_isProper_78 post J2 (wY_isProper_12 post J2 (nI i) (nI n) pc xs ys kx ky pr cn m) (nI i) (nI k) (gp_b N) (nI n) pc xs ys kx ky pr cn := by
      intro N eN c
      have := w79 N False eN ⟨fun z => z.elim, c⟩
      rw [gp_b_f (fun z => z)] at this
      unfold wY_isProper_78; exact this
    have w43 : ∀ N : Prop, (N ↔ (k + 1 = i ∨ (k = 0 ∧ i + 1 = n))) → wY_isProper_43 post J2 (wY_isProper_12 post J2 (nI i) (nI n) pc xs ys kx ky pr cn m) (nI i) (nI k) (gp_b N) (nI n) pc xs ys kx ky pr cn := by
      intro N eN
      unfold wY_isProper_43
      refine ⟨gp_vi h hi, gp_vi h hk, ?_⟩
      rw [gp_rx h hi, gp_rx h hk, gp_ry h hi, gp_ry h hk]
      refine gp_beq _ _ rfl rfl (gp_rr h hi).1 (gp_rr h hk).1 (fun c1 => ⟨gp_vi h hi, gp_vi h hk, ?_⟩) (fun c1 => w78 N eN fun z => c1 (by rw [z]))
      refine gp_beq _ _ rfl rfl (gp_rr h hi).2 (gp_rr h hk).2 (fun c2 => ?_) (fun c2 => w78 N eN fun z => c2 (by rw [z]))
      have := w79 N True eN ⟨fun _ => Prod.ext c1 c2, fun _ => trivial⟩
      rw [gp_b_t trivial] at this; exact this
    have w38 : (k + 1 = i ∨ (k = 0 ∧ i + 1 = n)) → wY_isProper_38 post J2 (wY_isProper_12 post J2 (nI i) (nI n) pc xs ys kx ky pr cn m) (nI i) (nI k) (nI n) pc xs ys kx ky pr cn := by
      intro c
      have := w43 True ⟨fun _ => c, fun _ => trivial⟩
      rw [gp_b_t trivial] at this
      unfold wY_isProper_38; exact this
    have w42 : ¬ (k + 1 = i ∨ (k = 0 ∧ i + 1 = n)) → wY_isProper_42 post J2 (wY_isProper_12 post J2 (nI i) (nI n) pc xs ys kx ky pr cn m) (nI i) (nI k) (nI n) pc xs ys kx ky pr cn := by
      intro c
      have := w43 False ⟨fun z => z.elim, c⟩
      rw [gp_b_f (fun z => z)] at this
      unfold wY_isProper_42; exact this
    rw [wY_isProper_12]
    refine br_f (nI_ge (by omega) (by omega)) ?_
    have p1 : nI i - 1 = nI (i - 1) := by rw [show i = i - 1 + 1 by omega, nI_pred, Nat.add_sub_cancel]
    have p2 : nI n - 1 = nI (n - 1) := by rw [show n = n - 1 + 1 by omega, nI_pred, Nat.add_sub_cancel]
    rw [p1, p2]
    refine gp_neq (by omega) (by omega) (fun c => w38 (Or.inl (by omega))) (fun c => ?_)
    refine gp_neq (b := 0) (by omega) (by omega) (fun c2 => ?_) (fun c2 => w42 (by omega))
    exact gp_neq (by omega) (by omega) (fun c3 => w38 (Or.inr (by omega))) (fun c3 => w42 (by omega))
theorem gy_isProper (h : gp_at n P xs ys) {post : Int32 → Prop} (hp : post (gp_b (gp_PY n P))) : wpY_isProper post (nI n, pc, xs, ys, kx, ky, pr, cn) := by
  have h10 := h.1
  have w158 : ((3 ≤ n → post 1) ∧ (¬ 3 ≤ n → post 0)) → wY_isProper_158 post (nI n) pc xs ys kx ky pr cn := by
    intro c
    unfold wY_isProper_158
    exact gp_nle (b := 2) (by omega) (by omega) (fun q => c.2 (by omega)) (fun q => c.1 (by omega))
  have l126 : (∀ i, i < n → ∀ k, k < i → gp_c1 n P i k) → ∀ (d i m : Nat), i + d = n → d < m → (∀ j, j < i → ¬ gp_fold (P ((j + n - 1) % n)) (P j) (P ((j + 1) % n))) → wY_isProper_126 post (nI n) pc xs ys kx ky pr cn m (nI i) := by
    intro c1 d
    induction d with
    | zero =>
      intro i m e dm c2
      obtain ⟨m, rfl⟩ : ∃ m', m = m' + 1 := ⟨m - 1, by omega⟩
      rw [wY_isProper_126]
      refine br_t (nI_le (by omega) (by omega)) (w158 ⟨fun q => gp_pt hp ⟨q, c1, fun j hj => c2 j (by omega)⟩, fun q => gp_pf hp fun z => q z.1⟩)
    | succ d ih =>
      intro i m e dm c2
      obtain ⟨m, rfl⟩ : ∃ m', m = m' + 1 := ⟨m - 1, by omega⟩
      have hi : i < n := by omega
      rw [wY_isProper_126]
      refine br_f (nI_ge (by omega) (by omega)) (gp_nle (b := 2) (by omega) (by omega) (fun q => w158 ⟨fun z => by omega, fun z => gp_pf hp fun w => z w.1⟩) (fun q => ?_))
      refine gy_isFolded h hi (gp_bb (fun f => nm_r (nI_1 i) (ih (i + 1) m (by omega) (by omega) fun j hj => ?_)) (fun f => gp_pf hp fun z => z.2.2 i hi f))
      by_cases q : j = i
      · subst q; exact f
      · exact c2 j (by omega)
  have l2 : ∀ (d i m : Nat), i + d = n → d < m → (∀ j, j < i → ∀ k, k < j → gp_c1 n P j k) → wY_isProper_2 post (nI n) pc xs ys kx ky pr cn m (nI i) := by
    intro d
    induction d with
    | zero =>
      intro i m e dm c
      obtain ⟨m, rfl⟩ : ∃ m', m = m' + 1 := ⟨m - 1, by omega⟩
      rw [wY_isProper_2]
      exact br_t (nI_le (by omega) (by omega)) ⟨n + 1, l126 (fun j hj => c j (by omega)) n 0 (n + 1) (by omega) (by omega) (fun j hj => by omega)⟩
    | succ d ih =>
      intro i m e dm c
      obtain ⟨m, rfl⟩ : ∃ m', m = m' + 1 := ⟨m - 1, by omega⟩
      have hi : i < n := by omega
      rw [wY_isProper_2]
      refine br_f (nI_ge (by omega) (by omega)) ⟨n + 1, gy_ip12 h hi i 0 (n + 1) (by omega) (by omega) (fun z => ih (i + 1) m (by omega) (by omega) fun j hj => ?_) (fun ⟨k, hk, z⟩ => gp_pf hp fun w => z (w.2.1 i hi k hk))⟩
      by_cases q : j = i
      · subst q; exact fun k hk => z k (by omega) hk
      · exact c j (by omega)
  unfold wpY_isProper
  exact ⟨n + 1, l2 n 0 (n + 1) (by omega) (by omega) (fun j hj => by omega)⟩
end
end
section
/-! Y: places of points, cuts -/
def gp_T (n : Nat) (P : Nat → Int × Int) (p : Int × Int) (i : Nat) : Bool := decide (gp_tg (gp_k 2 (P i)) (gp_k 2 (P ((i + 1) % n))) p)
def gp_oS (n : Nat) (P : Nat → Int × Int) (p : Int × Int) : Prop := ∃ i, i < n ∧ gp_os p (gp_k 2 (P i)) (gp_k 2 (P ((i + 1) % n)))
noncomputable def gp_plY (n : Nat) (P : Nat → Int × Int) (p : Int × Int) : Int := @ite Int (gp_oS n P p) (Classical.propDecidable _) 0 (if gp_par2 (gp_T n P p) n = true then 1 else -1)
section
variable {n : Nat} {P : Nat → Int × Int} {pc : Int32} {xs ys kx ky pr cn : Nat → Int32}
theorem gp_r2 (h : gp_at n P xs ys) {i : Nat} (hi : i < n) : gp_in (gp_k 2 (P i)) ∧ gp_rg (gp_k 2 (P i)).1 ∧ gp_rg (gp_k 2 (P i)).2 := by
  have := gp_rb h hi
  unfold gp_in gp_rg gp_k
  dsimp only
  omega
theorem gy_isOnSide (h : gp_at n P xs ys) (p : Int × Int) (hpi : gp_in p) {i : Nat} (hi : i < n) {post : Int32 → Prop} (hp : post (gp_b (gp_os p (gp_k 2 (P i)) (gp_k 2 (P ((i + 1) % n)))))) : wpY_isOnSide post (nI n, pc, xs, ys, kx, ky, pr, cn) (gp_I p.1) (gp_I p.2) (nI i) := by
  have h10 := h.1
  have ja := gp_n1 hi
  have r0 : gp_rg 0 := gp_rg_s (by omega)
  have rp : gp_rg p.1 ∧ gp_rg p.2 := by unfold gp_in at hpi; unfold gp_rg; omega
  obtain ⟨ia, xa, ya⟩ := gp_r2 h hi
  obtain ⟨ib, xb, yb⟩ := gp_r2 h ja
  have n0 : ¬ nI n = 0 := nI_ne0 (by omega) (by omega)
  have e1 : (nI i + 1) - (nI i + 1) / nI n * nI n = nI ((i + 1) % n) := by rw [nI_1]; exact gp_md (by omega) (by omega) h10
  generalize ea : gp_k 2 (P i) = a at *
  generalize eb : gp_k 2 (P ((i + 1) % n)) = b at *
  have ax : 2 * gp_I (P i).1 = gp_I a.1 := by rw [gp_I_2, ← gp_I_mul, ← ea]; rfl
  have ay : 2 * gp_I (P i).2 = gp_I a.2 := by rw [gp_I_2, ← gp_I_mul, ← ea]; rfl
  have bx : 2 * gp_I (P ((i + 1) % n)).1 = gp_I b.1 := by rw [gp_I_2, ← gp_I_mul, ← eb]; rfl
  have by' : 2 * gp_I (P ((i + 1) % n)).2 = gp_I b.2 := by rw [gp_I_2, ← gp_I_mul, ← eb]; rfl
  have w112 : ∀ A B : Prop, (A ↔ gp_bt p.1 a.1 b.1) → (B ↔ gp_bt p.2 a.2 b.2) → wY_isOnSide_112 post (gp_I p.1) (gp_I p.2) (gp_I a.1) (gp_I a.2) (gp_I b.1) (gp_I b.2) (gp_b A) (gp_b B) (nI n) pc xs ys kx ky pr cn := by
    intro A B eA eB
    unfold wY_isOnSide_112
    refine gp_bb (fun c => gp_pf hp fun z => c (eA.mpr z.2.1)) (fun c => gp_bb (fun d => gp_pf hp fun z => d (eB.mpr z.2.2)) (fun d => ?_))
    exact gy_turn _ _ _ _ _ _ (gp_turn_g ia ib hpi) (gp_beq _ 0 rfl rfl (gp_sg_g _) r0 (fun t => gp_pt hp ⟨(gp_sg_0 _).mp t, eA.mp c, eB.mp d⟩) (fun t => gp_pf hp fun z => t ((gp_sg_0 _).mpr z.1)))
  have w111 : ∀ A : Prop, (A ↔ gp_bt p.1 a.1 b.1) → ¬ gp_bt p.2 a.2 b.2 → wY_isOnSide_111 post (gp_I p.1) (gp_I p.2) (gp_I a.1) (gp_I a.2) (gp_I b.1) (gp_I b.2) (gp_b A) (nI n) pc xs ys kx ky pr cn := by
    intro A eA c
    have := w112 A False eA ⟨fun z => z.elim, c⟩
    rw [gp_b_f (fun z => z)] at this
    unfold wY_isOnSide_111; exact this
  have w107 : ∀ A : Prop, (A ↔ gp_bt p.1 a.1 b.1) → gp_bt p.2 a.2 b.2 → wY_isOnSide_107 post (gp_I p.1) (gp_I p.2) (gp_I a.1) (gp_I a.2) (gp_I b.1) (gp_I b.2) (gp_b A) (nI n) pc xs ys kx ky pr cn := by
    intro A eA c
    have := w112 A True eA ⟨fun _ => c, fun _ => trivial⟩
    rw [gp_b_t trivial] at this
    unfold wY_isOnSide_107; exact this
  have w95 : ∀ A : Prop, (A ↔ gp_bt p.1 a.1 b.1) → ¬ (a.2 ≤ p.2 ∧ p.2 ≤ b.2) → wY_isOnSide_95 post (gp_I p.1) (gp_I p.2) (gp_I a.1) (gp_I a.2) (gp_I b.1) (gp_I b.2) (gp_b A) (nI n) pc xs ys kx ky pr cn := by
    intro A eA c
    unfold wY_isOnSide_95
    refine gp_blt _ _ rfl rfl rp.2 yb (fun d => w111 A eA (by unfold gp_bt; omega)) (fun d => ?_)
    exact gp_blt _ _ rfl rfl ya rp.2 (fun f => w111 A eA (by unfold gp_bt; omega)) (fun f => w107 A eA (by unfold gp_bt; omega))
  have w81 : ∀ A : Prop, (A ↔ gp_bt p.1 a.1 b.1) → wY_isOnSide_81 post (gp_I p.1) (gp_I p.2) (gp_I a.1) (gp_I a.2) (gp_I b.1) (gp_I b.2) (gp_b A) (nI n) pc xs ys kx ky pr cn := by
    intro A eA
    unfold wY_isOnSide_81
    refine gp_blt _ _ rfl rfl rp.2 ya (fun d => w95 A eA (by omega)) (fun d => ?_)
    exact gp_ble _ _ rfl rfl rp.2 yb (fun f => w107 A eA (by unfold gp_bt; omega)) (fun f => w95 A eA (by omega))
  have w80 : ¬ gp_bt p.1 a.1 b.1 → wY_isOnSide_80 post (gp_I p.1) (gp_I p.2) (gp_I a.1) (gp_I a.2) (gp_I b.1) (gp_I b.2) (nI n) pc xs ys kx ky pr cn := by
    intro c
    have := w81 False ⟨fun z => z.elim, c⟩
    rw [gp_b_f (fun z => z)] at this
    unfold wY_isOnSide_80; exact this
  have w76 : gp_bt p.1 a.1 b.1 → wY_isOnSide_76 post (gp_I p.1) (gp_I p.2) (gp_I a.1) (gp_I a.2) (gp_I b.1) (gp_I b.2) (nI n) pc xs ys kx ky pr cn := by
    intro c
    have := w81 True ⟨fun _ => c, fun _ => trivial⟩
    rw [gp_b_t trivial] at this
    unfold wY_isOnSide_76; exact this
  have w64 : ¬ (a.1 ≤ p.1 ∧ p.1 ≤ b.1) → wY_isOnSide_64 post (gp_I p.1) (gp_I p.2) (gp_I a.1) (gp_I a.2) (gp_I b.1) (gp_I b.2) (nI n) pc xs ys kx ky pr cn := by
    intro c
    unfold wY_isOnSide_64
    refine gp_blt _ _ rfl rfl rp.1 xb (fun d => w80 (by unfold gp_bt; omega)) (fun d => ?_)
    exact gp_blt _ _ rfl rfl xa rp.1 (fun f => w80 (by unfold gp_bt; omega)) (fun f => w76 (by unfold gp_bt; omega))
  unfold wpY_isOnSide
  refine ⟨n0, nm_r e1 ⟨gp_vi h hi, ?_⟩⟩
  rw [gp_rx h hi, gp_rx h ja, gp_ry h hi, gp_ry h ja]
  refine nm_r ax ⟨gp_vi h hi, nm_r ay ⟨gp_vi h ja, nm_r bx ⟨gp_vi h ja, nm_r by' ?_⟩⟩⟩
  refine gp_blt _ _ rfl rfl rp.1 xa (fun d => w64 (by omega)) (fun d => ?_)
  exact gp_ble _ _ rfl rfl rp.1 xb (fun f => w76 (by unfold gp_bt; omega)) (fun f => w64 (by omega))
theorem gy_place (h : gp_at n P xs ys) (p : Int × Int) (hpi : gp_in p) {post : Int32 → Prop} (hp : post (gp_I (gp_plY n P p))) : wpY_place post (nI n, pc, xs, ys, kx, ky, pr, cn) (gp_I p.1) (gp_I p.2) := by
  have h10 := h.1
  have r0 : gp_rg 0 := gp_rg_s (by omega)
  have rp : gp_rg p.1 ∧ gp_rg p.2 := by unfold gp_in at hpi; unfold gp_rg; omega
  have loop : ∀ (d i m : Nat), i + d = n → d < m → (∀ j, j < i → ¬ gp_os p (gp_k 2 (P j)) (gp_k 2 (P ((j + 1) % n)))) → wY_place_5 post (gp_I p.1) (gp_I p.2) (nI n) pc xs ys kx ky pr cn m (gp_b (gp_par2 (gp_T n P p) i = true)) (nI i) := by
    intro d
    induction d with
    | zero =>
      intro i m e dm no
      obtain ⟨m, rfl⟩ : ∃ m', m = m' + 1 := ⟨m - 1, by omega⟩
      have nn : ¬ gp_oS n P p := fun ⟨j, hj, z⟩ => no j (by omega) z
      unfold gp_plY at hp
      rw [if_neg nn] at hp
      rw [wY_place_5, show i = n by omega]
      refine br_t (nI_le (by omega) (by omega)) (gp_bb (fun c => ?_) (fun c => ?_))
      · rw [if_neg c] at hp; exact hp
      · rw [if_pos c] at hp; exact hp
    | succ d ih =>
      intro i m e dm no
      obtain ⟨m, rfl⟩ : ∃ m', m = m' + 1 := ⟨m - 1, by omega⟩
      have hi : i < n := by omega
      have ja := gp_n1 hi
      have n0 : ¬ nI n = 0 := nI_ne0 (by omega) (by omega)
      have e1 : (nI i + 1) - (nI i + 1) / nI n * nI n = nI ((i + 1) % n) := by rw [nI_1]; exact gp_md (by omega) (by omega) h10
      rw [wY_place_5]
      refine br_f (nI_ge (by omega) (by omega)) (gy_isOnSide h p hpi hi (gp_bb (fun o => ⟨n0, nm_r e1 ⟨gp_vi h hi, ?_⟩⟩) (fun o => ?_)))
      · have nx := ih (i + 1) m (by omega) (by omega) (fun j hj => by
          by_cases q : j = i
          · subst q; exact o
          · exact no j (by omega))
        obtain ⟨ia, xa, ya⟩ := gp_r2 h hi
        obtain ⟨ib, xb, yb⟩ := gp_r2 h ja
        have tt : gp_T n P p i = true ↔ gp_tg (gp_k 2 (P i)) (gp_k 2 (P ((i + 1) % n))) p := by unfold gp_T; rw [decide_eq_true_iff]
        have ps : gp_par2 (gp_T n P p) (i + 1) = ((gp_par2 (gp_T n P p) i) != (gp_T n P p i)) := rfl
        rw [ps] at nx
        generalize ea : gp_k 2 (P i) = a at *
        generalize eb : gp_k 2 (P ((i + 1) % n)) = b at *
        have ax : 2 * gp_I (P i).1 = gp_I a.1 := by rw [gp_I_2, ← gp_I_mul, ← ea]; rfl
        have ay : 2 * gp_I (P i).2 = gp_I a.2 := by rw [gp_I_2, ← gp_I_mul, ← ea]; rfl
        have bx : 2 * gp_I (P ((i + 1) % n)).1 = gp_I b.1 := by rw [gp_I_2, ← gp_I_mul, ← eb]; rfl
        have by' : 2 * gp_I (P ((i + 1) % n)).2 = gp_I b.2 := by rw [gp_I_2, ← gp_I_mul, ← eb]; rfl
        have tg := gp_turn_g ia ib hpi
        have same : ¬ gp_tg a b p → wY_place_5 post (gp_I p.1) (gp_I p.2) (nI n) pc xs ys kx ky pr cn m (gp_b (gp_par2 (gp_T n P p) i = true)) (nI (i + 1)) := by
          intro c
          have : gp_T n P p i = false := by
            cases q : gp_T n P p i with
            | false => rfl
            | true => exact absurd (tt.mp q) c
          rw [this, Bool.bne_false] at nx; exact nx
        have flip : gp_tg a b p → wY_place_5 post (gp_I p.1) (gp_I p.2) (nI n) pc xs ys kx ky pr cn m (gp_b (¬ gp_par2 (gp_T n P p) i = true)) (nI (i + 1)) := by
          intro c
          rw [tt.mpr c, Bool.bne_true] at nx
          rw [gp_b_c (show ((!gp_par2 (gp_T n P p) i) = true) ↔ ¬ gp_par2 (gp_T n P p) i = true by cases gp_par2 (gp_T n P p) i <;> simp)] at nx
          exact nx
        have w135 : ∀ U S : Prop, (U ↔ p.2 < a.2) → (S ↔ 0 < gp_turn a b p) → ¬ (p.2 < a.2 ↔ p.2 < b.2) → wY_place_135 post (wY_place_5 post (gp_I p.1) (gp_I p.2) (nI n) pc xs ys kx ky pr cn m) (gp_I p.1) (gp_I p.2) (gp_b (gp_par2 (gp_T n P p) i = true)) (nI i) (gp_b U) (gp_b S) (nI n) pc xs ys kx ky pr cn := by
          intro U S eU eS c
          unfold wY_place_135
          refine gp_bbe (fun q => nm_r (nI_1 i) (same fun z => z.2 (eS.symm.trans (q.trans eU)))) (fun q => gp_bb (fun r => nm_r (nI_1 i) ?_) (fun r => nm_r (nI_1 i) ?_))
          · have := flip ⟨c, fun z => q (eS.trans (z.trans eU.symm))⟩
            rw [gp_b_t r] at this; exact this
          · have := flip ⟨c, fun z => q (eS.trans (z.trans eU.symm))⟩
            rw [gp_b_f (fun z => z r)] at this; exact this
        have w78 : ∀ U V : Prop, (U ↔ p.2 < a.2) → (V ↔ p.2 < b.2) → wY_place_78 post (wY_place_5 post (gp_I p.1) (gp_I p.2) (nI n) pc xs ys kx ky pr cn m) (gp_I p.1) (gp_I p.2) (gp_b (gp_par2 (gp_T n P p) i = true)) (nI i) (nI ((i + 1) % n)) (gp_b U) (gp_b V) (gp_b U) (nI n) pc xs ys kx ky pr cn := by
          intro U V eU eV
          unfold wY_place_78
          refine gp_bbe (fun q => nm_r (nI_1 i) (same fun z => z.1 (eU.symm.trans (q.trans eV)))) (fun q => ⟨gp_vi h hi, gp_vi h hi, gp_vi h ja, gp_vi h ja, ?_⟩)
          rw [gp_rx h hi, gp_rx h ja, gp_ry h hi, gp_ry h ja, ax, ay, bx, by']
          have cc : ¬ (p.2 < a.2 ↔ p.2 < b.2) := fun z => q (eU.trans (z.trans eV.symm))
          refine gy_turn _ _ _ _ _ _ tg (gp_ble _ 0 rfl rfl (gp_sg_g _) r0 (fun t => ?_) (fun t => ?_))
          · have nt : ¬ 0 < gp_turn a b p := fun w => by rw [Int.sign_eq_one_of_pos w] at t; omega
            have := w135 U False eU ⟨fun z => z.elim, nt⟩ cc
            rw [gp_b_f (fun z => z)] at this; exact this
          · have pt : 0 < gp_turn a b p := by
              rcases gp_sign_cases (gp_turn a b p) with ⟨e, w⟩ | ⟨e, w⟩ | ⟨e, w⟩
              · exact w
              · exact absurd (show (gp_turn a b p).sign ≤ 0 by omega) t
              · exact absurd (show (gp_turn a b p).sign ≤ 0 by omega) t
            have := w135 U True eU ⟨fun _ => pt, fun _ => trivial⟩ cc
            rw [gp_b_t trivial] at this; exact this
        have w56 : ∀ U : Prop, (U ↔ p.2 < a.2) → wY_place_56 post (wY_place_5 post (gp_I p.1) (gp_I p.2) (nI n) pc xs ys kx ky pr cn m) (gp_I p.1) (gp_I p.2) (gp_b (gp_par2 (gp_T n P p) i = true)) (nI i) (nI ((i + 1) % n)) (gp_b U) (nI n) pc xs ys kx ky pr cn := by
          intro U eU
          unfold wY_place_56
          refine ⟨gp_vi h ja, ?_⟩
          rw [gp_ry h ja, by']
          refine gp_ble _ _ rfl rfl yb rp.2 (fun c => ?_) (fun c => ?_)
          · have := w78 U False eU ⟨fun z => z.elim, fun z => by omega⟩
            rw [gp_b_f (c := False) (fun z => z)] at this; exact this
          · have := w78 U True eU ⟨fun _ => by omega, fun _ => trivial⟩
            rw [gp_b_t (c := True) trivial] at this; exact this
        rw [gp_ry h hi, ay]
        refine gp_ble _ _ rfl rfl ya rp.2 (fun c => ?_) (fun c => ?_)
        · have := w56 False ⟨fun z => z.elim, fun z => by omega⟩
          rw [gp_b_f (c := False) (fun z => z)] at this; exact this
        · have := w56 True ⟨fun _ => by omega, fun _ => trivial⟩
          rw [gp_b_t (c := True) trivial] at this; exact this
      · unfold gp_plY at hp
        rw [if_pos (show gp_oS n P p from ⟨i, hi, o⟩)] at hp; exact hp
  have l0 := loop n 0 (n + 1) (by omega) (by omega) (fun j hj => by omega)
  rw [gp_b_f (by simp [gp_par2])] at l0
  unfold wpY_place
  exact ⟨n + 1, l0⟩
theorem gp_plY_r (n : Nat) (P : Nat → Int × Int) (p : Int × Int) : gp_plY n P p = 0 ∨ gp_plY n P p = 1 ∨ gp_plY n P p = -1 := by
  unfold gp_plY
  by_cases c : gp_oS n P p
  · rw [if_pos c]; exact Or.inl rfl
  · rw [if_neg c]
    split
    · exact Or.inr (Or.inl rfl)
    · exact Or.inr (Or.inr rfl)
end
end
section
/-! Y: cuts, counts, the lowest corner, convex polygons, the widest pair -/
def gp_ICY (n : Nat) (P : Nat → Int × Int) (p q : Nat) : Prop := p ≠ q ∧ (p + 1) % n ≠ q ∧ (q + 1) % n ≠ p ∧ (∀ i, i < n → gp_clr n P p q i) ∧ gp_plY n P (gp_mid (P p) (P q)) = 1
section
variable {n : Nat} {P : Nat → Int × Int} {pc : Int32} {xs ys kx ky pr cn : Nat → Int32}
theorem gp_mid_in (h : gp_at n P xs ys) {p q : Nat} (hp : p < n) (hq : q < n) : gp_in (gp_mid (P p) (P q)) := by
  have a := gp_rb h hp
  have b := gp_rb h hq
  unfold gp_in gp_mid
  dsimp only
  omega
theorem gy_ic44 (h : gp_at n P xs ys) {p q : Nat} (hpn : p < n) (hqn : q < n) {post : Int32 → Prop} : ∀ (d i m : Nat), i + d = n → d < m →
    (((∀ i', i ≤ i' → i' < n → gp_clr n P p q i') ∧ gp_plY n P (gp_mid (P p) (P q)) = 1) → post 1) → (¬ ((∀ i', i ≤ i' → i' < n → gp_clr n P p q i') ∧ gp_plY n P (gp_mid (P p) (P q)) = 1) → post 0) →
    wY_isCut_44 post (nI p) (nI q) (nI n) pc xs ys kx ky pr cn m (nI i) := by
  have h10 := h.1
  have n0 : ¬ nI n = 0 := nI_ne0 (by omega) (by omega)
  intro d
  induction d with
  | zero =>
    intro i m e dm h1 h0
    obtain ⟨m, rfl⟩ : ∃ m', m = m' + 1 := ⟨m - 1, by omega⟩
    rw [wY_isCut_44]
    refine br_t (nI_le (by omega) (by omega)) ⟨gp_vi h hpn, gp_vi h hqn, gp_vi h hpn, gp_vi h hqn, ?_⟩
    rw [gp_rx h hpn, gp_rx h hqn, gp_ry h hpn, gp_ry h hqn, ← gp_I_add, ← gp_I_add]
    refine gy_place h (gp_mid (P p) (P q)) (gp_mid_in h hpn hqn) ?_
    have r := gp_plY_r n P (gp_mid (P p) (P q))
    exact gp_beq _ 1 rfl rfl (gp_rg_s (by omega)) (gp_rg_s (by omega)) (fun c => h1 ⟨fun i' a b => by omega, c⟩) (fun c => h0 fun z => c z.2)
  | succ d ih =>
    intro i m e dm h1 h0
    obtain ⟨m, rfl⟩ : ∃ m', m = m' + 1 := ⟨m - 1, by omega⟩
    have hi : i < n := by omega
    have ja := gp_n1 hi
    have step : gp_clr n P p q i → wY_isCut_44 post (nI p) (nI q) (nI n) pc xs ys kx ky pr cn m (nI (i + 1)) := by
      intro c
      refine ih (i + 1) m (by omega) (by omega) (fun z => h1 ⟨fun i' a b => ?_, z.2⟩) (fun z => h0 fun w => z ⟨fun i' a b => w.1 i' (by omega) b, w.2⟩)
      by_cases e : i' = i
      · subst e; exact c
      · exact z.1 i' (by omega) b
    have stop : ¬ gp_clr n P p q i → post 0 := fun c => h0 fun w => c (w.1 i (by omega) hi)
    have w118 : ∀ A : Prop, (A ↔ (i ≠ p ∧ i ≠ q ∧ (i + 1) % n ≠ p ∧ (i + 1) % n ≠ q)) → (i ≠ p → i ≠ q → ¬ gp_os (P i) (P p) (P q)) → wY_isCut_118 post (wY_isCut_44 post (nI p) (nI q) (nI n) pc xs ys kx ky pr cn m) (nI p) (nI q) (nI i) (nI ((i + 1) % n)) (gp_b A) (nI n) pc xs ys kx ky pr cn := by
      intro A eA no
      unfold wY_isCut_118
      refine gp_bb (fun a => nm_r (nI_1 i) (step ⟨fun a1 a2 a3 a4 => absurd (eA.mpr ⟨a1, a2, a3, a4⟩) a, no⟩)) (fun a => ?_)
      have a' := eA.mp a
      exact gy_meet h hpn hqn hi ja (gp_bb (fun mm => nm_r (nI_1 i) (step ⟨fun _ _ _ _ => mm, no⟩)) (fun mm => stop fun z => z.1 a'.1 a'.2.1 a'.2.2.1 a'.2.2.2 mm))
    have w93 : ∀ A : Prop, (A ↔ (i ≠ p ∧ i ≠ q ∧ (i + 1) % n ≠ p ∧ (i + 1) % n ≠ q)) → wY_isCut_93 post (wY_isCut_44 post (nI p) (nI q) (nI n) pc xs ys kx ky pr cn m) (nI p) (nI q) (nI i) (nI ((i + 1) % n)) (gp_b A) (nI n) pc xs ys kx ky pr cn := by
      intro A eA
      unfold wY_isCut_93
      refine gp_neq (by omega) (by omega) (fun c => w118 A eA fun a => absurd c a) (fun c => gp_neq (by omega) (by omega) (fun d => w118 A eA fun _ a => absurd d a) (fun d => ?_))
      exact gy_isBetween h hpn hqn hi (gp_bb (fun o => w118 A eA fun _ _ => o) (fun o => stop fun z => z.2 c d o))
    have w92 : ¬ (i ≠ p ∧ i ≠ q ∧ (i + 1) % n ≠ p ∧ (i + 1) % n ≠ q) → wY_isCut_92 post (wY_isCut_44 post (nI p) (nI q) (nI n) pc xs ys kx ky pr cn m) (nI p) (nI q) (nI i) (nI ((i + 1) % n)) (nI n) pc xs ys kx ky pr cn := by
      intro c
      have := w93 False ⟨fun z => z.elim, c⟩
      rw [gp_b_f (fun z => z)] at this
      unfold wY_isCut_92; exact this
    rw [wY_isCut_44]
    refine br_f (nI_ge (by omega) (by omega)) ⟨n0, nm_r (e' := nI ((i + 1) % n)) ?_ ?_⟩
    · rw [nI_1]; exact gp_md (by omega) (by omega) h10
    · refine gp_neq (by omega) (by omega) (fun c => w92 fun z => z.1 c) (fun c1 => ?_)
      refine gp_neq (by omega) (by omega) (fun c => w92 fun z => z.2.1 c) (fun c2 => ?_)
      refine gp_neq (by omega) (by omega) (fun c => w92 fun z => z.2.2.1 c) (fun c3 => ?_)
      refine gp_neq (by omega) (by omega) (fun c => w92 fun z => z.2.2.2 c) (fun c4 => ?_)
      have := w93 True ⟨fun _ => ⟨c1, c2, c3, c4⟩, fun _ => trivial⟩
      rw [gp_b_t trivial] at this; exact this
theorem gy_isCut (h : gp_at n P xs ys) {p q : Nat} (hpn : p < n) (hqn : q < n) {post : Int32 → Prop} (hp : post (gp_b (gp_ICY n P p q))) : wpY_isCut post (nI n, pc, xs, ys, kx, ky, pr, cn) (nI p) (nI q) := by
  have h10 := h.1
  have pa := gp_n1 hpn
  have qa := gp_n1 hqn
  have n0 : ¬ nI n = 0 := nI_ne0 (by omega) (by omega)
  have e1 : (nI p + 1) - (nI p + 1) / nI n * nI n = nI ((p + 1) % n) := by rw [nI_1]; exact gp_md (by omega) (by omega) h10
  have e2 : (nI q + 1) - (nI q + 1) / nI n * nI n = nI ((q + 1) % n) := by rw [nI_1]; exact gp_md (by omega) (by omega) h10
  have w24 : ((p + 1) % n = q ∨ (q + 1) % n = p) → wY_isCut_24 post (nI p) (nI q) (nI n) pc xs ys kx ky pr cn := by
    intro c
    have np : ¬ gp_ICY n P p q := fun z => c.elim z.2.1 z.2.2.1
    unfold wY_isCut_24 wY_isCut_29
    exact gp_neq (by omega) (by omega) (fun _ => gp_pf hp np) (fun _ => br_f gp_one_ne (gp_pf hp np))
  unfold wpY_isCut
  refine ⟨n0, ?_⟩
  rw [e1, e2]
  refine gp_neq (by omega) (by omega) (fun c => w24 (Or.inl c)) (fun c1 => ⟨n0, ?_⟩)
  refine gp_neq (by omega) (by omega) (fun c => w24 (Or.inr c)) (fun c2 => ?_)
  unfold wY_isCut_29
  refine gp_neq (by omega) (by omega) (fun c => gp_pf hp fun z => z.1 c) (fun c3 => br_t rfl ⟨n + 1, ?_⟩)
  exact gy_ic44 h hpn hqn n 0 (n + 1) (by omega) (by omega) (fun z => gp_pt hp ⟨c3, c1, c2, fun i hi => z.1 i (by omega) hi, z.2⟩) (fun z => gp_pf hp fun w => z ⟨fun i _ hi => w.2.2.2.1 i hi, w.2.2.2.2⟩)
theorem gy_isCorner (h : gp_at n P xs ys) (p0 : Int32) {post : Int32 → Prop} (h0 : (∀ i, i < n → p0 ≠ nI i) → post 0) (h1 : ∀ i, i < n → p0 = nI i → post 1) : wpY_isCorner post (nI n, pc, xs, ys, kx, ky, pr, cn) p0 := by
  have h10 := h.1
  unfold wpY_isCorner
  refine br_c (fun c => h0 fun i hi e => ?_) (fun c => ?_)
  · rw [e] at c; exact nI_pos (by omega) c
  · obtain ⟨j, hj, rfl⟩ := nI_of c
    by_cases q : j < n
    · exact br_f (nI_ge q (by omega)) (h1 j q rfl)
    · refine br_t (nI_le (by omega) (by omega)) (h0 fun i hi e => ?_)
      rw [nI_eq hj (by omega)] at e
      omega
def gp_CY (n : Nat) (P : Nat → Int × Int) (p q : Nat) : Prop := gp_PY n P ∧ gp_ICY n P p q
theorem gy_cut (h : gp_at n P xs ys) (a b : Int32) {post : Int32 → Prop} (hp : post (gp_b (gp_C2 n (gp_CY n P) a b))) : wpY_cut post (nI n, pc, xs, ys, kx, ky, pr, cn) a b := by
  have h10 := h.1
  unfold wpY_cut
  refine gy_isCorner h a (fun c => br_t rfl (gp_pf hp ?_)) (fun p hpn ea => br_f gp_one_ne ?_)
  · rintro ⟨p, q, hp, hq, e1, e2, _⟩; exact c p hp e1
  · refine gy_isCorner h b (fun c => br_t rfl (gp_pf hp ?_)) (fun q hqn eb => br_f gp_one_ne ?_)
    · rintro ⟨p, q, hp, hq, e1, e2, _⟩; exact c q hq e2
    · subst ea; subst eb
      rw [gp_b_c (gp_C2_nI h10 hpn hqn)] at hp
      refine gy_isProper h (gp_bb (fun c => gp_pf hp fun z => c z.1) (fun c => ?_))
      exact gy_isCut h hpn hqn (gp_bb (fun d => gp_pf hp fun z => d z.2) (fun d => gp_pt hp ⟨c, d⟩))
theorem gy_proper (h : gp_at n P xs ys) {post : Int32 → Prop} (hp : post (gp_b (gp_PY n P))) : wpY_proper post (nI n, pc, xs, ys, kx, ky, pr, cn) := by
  unfold wpY_proper
  exact gy_isProper h ⟨gp_b_n _, hp⟩
/-- places counted -/
noncomputable def gp_cnt (n : Nat) (P : Nat → Int × Int) (w : Int) (t : Nat) : Int := if gp_plY n P (gp_k 2 (gp_nn (t % 16) (t / 16))) = w then 1 else 0
theorem gp_pt2 {k : Nat} (hk : k < 256) : (2 : Int32) * (nI k - nI k / 16 * 16) = gp_I (gp_k 2 (gp_nn (k % 16) (k / 16))).1 ∧ (nI k / 16) * 2 = gp_I (gp_k 2 (gp_nn (k % 16) (k / 16))).2 ∧ gp_in (gp_k 2 (gp_nn (k % 16) (k / 16))) := by
  refine ⟨?_, ?_, ?_⟩
  · rw [show (16 : Int32) = nI 16 from rfl, pk_rem (by omega) (by omega) (by omega), gp_I_2, gp_nI, ← gp_I_mul]; rfl
  · rw [show (16 : Int32) = nI 16 from rfl, pk_div (by omega) (by omega) (by omega), gp_I_2, gp_nI, ← gp_I_mul, Int.mul_comm]; rfl
  · unfold gp_in gp_k gp_nn; dsimp only; omega
theorem gy_countPlaces (h : gp_at n P xs ys) (w : Int) (hw : 0 ≤ w ∧ w ≤ 1) {post : Int32 → Prop} (hp : post (gp_I (gp_sm (gp_cnt n P w) 256))) : wpY_countPlaces post (nI n, pc, xs, ys, kx, ky, pr, cn) (gp_I w) := by
  have loop : ∀ (d t m : Nat), t + d = 256 → d < m → wY_countPlaces_4 post (gp_I w) (nI n) pc xs ys kx ky pr cn m (gp_I (gp_sm (gp_cnt n P w) t)) (nI t) := by
    intro d
    induction d with
    | zero =>
      intro t m e dm
      obtain ⟨m, rfl⟩ : ∃ m', m = m' + 1 := ⟨m - 1, by omega⟩
      rw [wY_countPlaces_4, show t = 256 by omega]
      exact br_t (by decide) hp
    | succ d ih =>
      intro t m e dm
      obtain ⟨m, rfl⟩ : ∃ m', m = m' + 1 := ⟨m - 1, by omega⟩
      have nx := ih (t + 1) m (by omega) (by omega)
      rw [gp_sm_s] at nx
      rw [wY_countPlaces_4]
      refine gp_nle (a := 256) (by omega) (by omega) (fun c => by omega) (fun c => ⟨by decide, by decide, ?_⟩)
      obtain ⟨q1, q2, q3⟩ := gp_pt2 (k := t) (by omega)
      rw [q1, q2]
      refine gy_place h _ q3 ?_
      have r := gp_plY_r n P (gp_k 2 (gp_nn (t % 16) (t / 16)))
      unfold gp_cnt at nx
      refine gp_beq _ _ rfl rfl (gp_rg_s (by omega)) (gp_rg_s (by omega)) (fun c => nm_r (gp_I_add _ 1).symm (nm_r (nI_1 t) ?_)) (fun c => nm_r (nI_1 t) ?_)
      · rw [if_pos c] at nx; exact nx
      · rw [if_neg c, Int.add_zero] at nx; exact nx
  unfold wpY_countPlaces
  exact ⟨257, loop 256 0 257 (by omega) (by omega)⟩
theorem gy_area (h : gp_at n P xs ys) {post : Int32 → Prop} (h0 : ¬ gp_PY n P → post (-1000)) (h1 : gp_PY n P → post (gp_I (2 * gp_sm (gp_cnt n P 1) 256 + gp_sm (gp_cnt n P 0) 256 - 2))) : wpY_area post (nI n, pc, xs, ys, kx, ky, pr, cn) := by
  unfold wpY_area
  refine gy_isProper h (gp_bb h0 fun c => gy_countPlaces h 1 (by omega) (gy_countPlaces h 0 (by omega) ?_))
  have := h1 c
  rw [gp_I_sub, gp_I_add, gp_I_mul] at this
  exact this
theorem gy_edge (h : gp_at n P xs ys) {post : Int32 → Prop} (h0 : ¬ gp_PY n P → post (-1000)) (h1 : gp_PY n P → post (gp_I (gp_sm (gp_cnt n P 0) 256))) : wpY_edge post (nI n, pc, xs, ys, kx, ky, pr, cn) := by
  unfold wpY_edge
  exact gy_isProper h (gp_bb h0 fun c => gy_countPlaces h 0 (by omega) (h1 c))
theorem gy_inside (h : gp_at n P xs ys) {post : Int32 → Prop} (h0 : ¬ gp_PY n P → post (-1000)) (h1 : gp_PY n P → post (gp_I (gp_sm (gp_cnt n P 1) 256))) : wpY_inside post (nI n, pc, xs, ys, kx, ky, pr, cn) := by
  unfold wpY_inside
  exact gy_isProper h (gp_bb h0 fun c => gy_countPlaces h 1 (by omega) (h1 c))
theorem gy_isPoint (p0 : Int32) {post : Int32 → Prop} (h0 : (∀ k, k < 256 → p0 ≠ nI k) → post 0) (h1 : ∀ k, k < 256 → p0 = nI k → post 1) : wpY_isPoint post (nI n, pc, xs, ys, kx, ky, pr, cn) p0 := by
  unfold wpY_isPoint
  refine br_c (fun c => h0 fun i hi e => ?_) (fun c => ?_)
  · rw [e] at c; exact nI_pos (by omega) c
  · obtain ⟨j, hj, rfl⟩ := nI_of c
    by_cases q : j < 256
    · exact br_f (nI_nlt (a := 255) (by omega) (by omega)) (h1 j q rfl)
    · refine br_t (nI_lt (a := 255) (by omega) (by omega)) (h0 fun i hi e => ?_)
      rw [nI_eq hj (by omega)] at e
      omega
theorem gy_where (h : gp_at n P xs ys) (p0 : Int32) {post : Int32 → Prop} (h0 : (¬ gp_PY n P ∨ ∀ k, k < 256 → p0 ≠ nI k) → post (-1000))
    (h1 : gp_PY n P → ∀ k, k < 256 → p0 = nI k → post (gp_I (gp_plY n P (gp_k 2 (gp_nn (k % 16) (k / 16)))))) : wpY_where post (nI n, pc, xs, ys, kx, ky, pr, cn) p0 := by
  unfold wpY_where
  refine gy_isPoint p0 (fun c => br_t rfl (h0 (Or.inr c))) (fun k hk e => br_f gp_one_ne (gy_isProper h (gp_bb (fun c => h0 (Or.inl c)) (fun c => ⟨by decide, by decide, ?_⟩))))
  subst e
  obtain ⟨q1, q2, q3⟩ := gp_pt2 hk
  rw [q1, q2]
  exact gy_place h _ q3 (h1 c k hk rfl)
/-- lowest, then farthest left -/
def gp_lw (a b : Int × Int) : Prop := a.2 < b.2 ∨ (a.2 = b.2 ∧ a.1 ≤ b.1)
theorem gy_left (h : gp_at n P xs ys) {post : Int32 → Prop} (h0 : ¬ gp_PY n P → post 0) (h1 : gp_PY n P → ∀ l, l < n → (∀ j, j < n → gp_lw (P l) (P j)) → post (gp_b (0 < gp_tn n P l))) : wpY_left post (nI n, pc, xs, ys, kx, ky, pr, cn) := by
  have h10 := h.1
  have r0 : gp_rg 0 := gp_rg_s (by omega)
  unfold wpY_left
  refine gy_isProper h (gp_bb h0 fun c => ⟨n + 1, ?_⟩)
  have n3 := c.1
  have n0 : ¬ nI n = 0 := nI_ne0 (by omega) (by omega)
  have loop : ∀ (d i m l : Nat), i + d = n → d < m → l < i → (∀ j, j < i → gp_lw (P l) (P j)) → wY_left_13 post (nI n) pc xs ys kx ky pr cn m (nI l) (nI i) := by
    intro d
    induction d with
    | zero =>
      intro i m l e dm li hl
      obtain ⟨m, rfl⟩ : ∃ m', m = m' + 1 := ⟨m - 1, by omega⟩
      have ln : l < n := by omega
      have e1 : (nI l + 1) - (nI l + 1) / nI n * nI n = nI ((l + 1) % n) := by rw [nI_1]; exact gp_md (by omega) (by omega) h10
      have e2 : ((nI l + nI n) - 1) - ((nI l + nI n) - 1) / nI n * nI n = nI ((l + n - 1) % n) := by
        rw [nI_add, show l + n = l + n - 1 + 1 by omega, nI_pred, show l + n - 1 + 1 - 1 = l + n - 1 by omega]; exact gp_md (by omega) (by omega) h10
      rw [wY_left_13]
      refine br_t (nI_le (by omega) (by omega)) ⟨n0, n0, ?_⟩
      rw [e1, e2]
      have hp := h1 c l ln (fun j hj => hl j (by omega))
      refine gy_turnOf h (gp_n2 ln) ln (gp_n1 ln) (gp_ble _ 0 rfl rfl (gp_sg_g _) r0 (fun t => gp_pf hp fun w => ?_) (fun t => gp_pt hp ?_))
      · unfold gp_tn at w; rw [Int.sign_eq_one_of_pos w] at t; omega
      · unfold gp_tn
        rcases gp_sign_cases (gp_turn (P ((l + n - 1) % n)) (P l) (P ((l + 1) % n))) with ⟨e, w⟩ | ⟨e, w⟩ | ⟨e, w⟩
        · exact w
        · exact absurd (show (gp_turn (P ((l + n - 1) % n)) (P l) (P ((l + 1) % n))).sign ≤ 0 by omega) t
        · exact absurd (show (gp_turn (P ((l + n - 1) % n)) (P l) (P ((l + 1) % n))).sign ≤ 0 by omega) t
    | succ d ih =>
      intro i m l e dm li hl
      obtain ⟨m, rfl⟩ : ∃ m', m = m' + 1 := ⟨m - 1, by omega⟩
      have hi : i < n := by omega
      have ln : l < n := by omega
      have keep : gp_lw (P l) (P i) → wY_left_70 post (wY_left_13 post (nI n) pc xs ys kx ky pr cn m) (nI l) (nI i) (nI n) pc xs ys kx ky pr cn := by
        intro q
        unfold wY_left_70 wY_left_71
        refine br_t rfl (nm_r (nI_1 i) (ih (i + 1) m l (by omega) (by omega) (by omega) fun j hj => ?_))
        by_cases z : j = i
        · subst z; exact q
        · exact hl j (by omega)
      have take : gp_lw (P i) (P l) → wY_left_66 post (wY_left_13 post (nI n) pc xs ys kx ky pr cn m) (nI l) (nI i) (nI n) pc xs ys kx ky pr cn := by
        intro q
        unfold wY_left_66 wY_left_71
        refine br_f gp_one_ne (nm_r (nI_1 i) (ih (i + 1) m i (by omega) (by omega) (by omega) fun j hj => ?_))
        by_cases z : j = i
        · subst z; exact Or.inr ⟨rfl, Int.le_refl _⟩
        · have := hl j (by omega)
          unfold gp_lw at *
          omega
      rw [wY_left_13]
      refine br_f (nI_ge (by omega) (by omega)) ⟨gp_vi h hi, gp_vi h ln, ?_⟩
      rw [gp_ry h hi, gp_ry h ln, gp_rx h hi, gp_rx h ln]
      refine gp_blt _ _ rfl rfl (gp_rr h hi).2 (gp_rr h ln).2 (fun q => take (Or.inl q)) (fun q => ⟨gp_vi h hi, gp_vi h ln, ?_⟩)
      refine gp_beq _ _ rfl rfl (gp_rr h hi).2 (gp_rr h ln).2 (fun q2 => ⟨gp_vi h hi, gp_vi h ln, ?_⟩) (fun q2 => keep (by unfold gp_lw; omega))
      exact gp_ble _ _ rfl rfl (gp_rr h ln).1 (gp_rr h hi).1 (fun q3 => keep (by unfold gp_lw; omega)) (fun q3 => take (by unfold gp_lw; omega))
  exact loop (n - 1) 1 (n + 1) 0 (by omega) (by omega) (by omega) (fun j hj => by rw [show j = 0 by omega]; exact Or.inr ⟨rfl, Int.le_refl _⟩)
def gp_t2 (n : Nat) (P : Nat → Int × Int) (i : Nat) : Int := gp_turn (P i) (P ((i + 1) % n)) (P ((i + 2) % n))
def gp_cvY (n : Nat) (P : Nat → Int × Int) : Prop := gp_PY n P ∧ ¬ ((∃ i, i < n ∧ 0 < gp_t2 n P i) ∧ (∃ i, i < n ∧ gp_t2 n P i < 0))
theorem gy_convex (h : gp_at n P xs ys) {post : Int32 → Prop} (hp : post (gp_b (gp_cvY n P))) : wpY_convex post (nI n, pc, xs, ys, kx, ky, pr, cn) := by
  have h10 := h.1
  have r0 : gp_rg 0 := gp_rg_s (by omega)
  have loop : ∀ (d i m : Nat), i + d = n → d < m → wY_convex_6 post (nI n) pc xs ys kx ky pr cn m (gp_b (∃ j, j < i ∧ 0 < gp_t2 n P j)) (gp_b (∃ j, j < i ∧ gp_t2 n P j < 0)) (nI i) := by
    intro d
    induction d with
    | zero =>
      intro i m e dm
      obtain ⟨m, rfl⟩ : ∃ m', m = m' + 1 := ⟨m - 1, by omega⟩
      rw [wY_convex_6, show i = n by omega]
      refine br_t (nI_le (by omega) (by omega)) (gy_isProper h (gp_bb (fun a => gp_pf hp fun z => a z.1) (fun a => gp_bb (fun b => gp_pt hp ⟨a, fun z => b z.1⟩) (fun b => gp_bb (fun c => gp_pt hp ⟨a, fun z => c z.2⟩) (fun c => gp_pf hp fun z => z.2 ⟨b, c⟩)))))
    | succ d ih =>
      intro i m e dm
      obtain ⟨m, rfl⟩ : ∃ m', m = m' + 1 := ⟨m - 1, by omega⟩
      have hi : i < n := by omega
      have j1 := gp_n1 hi
      have j2 : (i + 2) % n < n := Nat.mod_lt _ (by omega)
      have nx := ih (i + 1) m (by omega) (by omega)
      have n0 : ¬ nI n = 0 := nI_ne0 (by omega) (by omega)
      have e1 : (nI i + 1) - (nI i + 1) / nI n * nI n = nI ((i + 1) % n) := by rw [nI_1]; exact gp_md (by omega) (by omega) h10
      have e2 : (nI i + 2) - (nI i + 2) / nI n * nI n = nI ((i + 2) % n) := by
        rw [show nI i + 2 = nI (i + 2) from (by rw [← nI_add]; rfl)]; exact gp_md (by omega) (by omega) h10
      have w51 : ∀ L : Prop, (L ↔ ∃ j, j < i + 1 ∧ 0 < gp_t2 n P j) → wY_convex_51 post (wY_convex_6 post (nI n) pc xs ys kx ky pr cn m) (gp_b (∃ j, j < i ∧ gp_t2 n P j < 0)) (nI i) (gp_I (gp_t2 n P i).sign) (gp_b L) (nI n) pc xs ys kx ky pr cn := by
        intro L eL
        rw [← gp_b_c eL] at nx
        unfold wY_convex_51
        refine gp_bb (fun c => gp_ble 0 _ rfl rfl r0 (gp_sg_g _) (fun z => nm_r (nI_1 i) ?_) (fun z => nm_r (nI_1 i) ?_)) (fun c => nm_r (nI_1 i) ?_)
        · rw [gp_b_f (c := ∃ j, j < i + 1 ∧ gp_t2 n P j < 0) (fun q => by
            rcases gp_ex_s.mp q with q | q
            · exact c q
            · rw [Int.sign_eq_neg_one_of_neg q] at z; omega)] at nx; exact nx
        · have : gp_t2 n P i < 0 := by
            rcases gp_sign_cases (gp_t2 n P i) with ⟨e, w⟩ | ⟨e, w⟩ | ⟨e, w⟩
            · exact absurd (show 0 ≤ (gp_t2 n P i).sign by omega) z
            · exact absurd (show 0 ≤ (gp_t2 n P i).sign by omega) z
            · exact w
          rw [gp_b_t (c := ∃ j, j < i + 1 ∧ gp_t2 n P j < 0) (gp_ex_s.mpr (Or.inr this))] at nx; exact nx
        · rw [gp_b_t (c := ∃ j, j < i + 1 ∧ gp_t2 n P j < 0) (gp_ex_s.mpr (Or.inl c))] at nx; exact nx
      have w46 : (∃ j, j < i + 1 ∧ 0 < gp_t2 n P j) → wY_convex_46 post (wY_convex_6 post (nI n) pc xs ys kx ky pr cn m) (gp_b (∃ j, j < i ∧ gp_t2 n P j < 0)) (nI i) (gp_I (gp_t2 n P i).sign) (nI n) pc xs ys kx ky pr cn := by
        intro c
        have := w51 True ⟨fun _ => c, fun _ => trivial⟩
        rw [gp_b_t trivial] at this
        unfold wY_convex_46; exact this
      rw [wY_convex_6]
      refine br_f (nI_ge (by omega) (by omega)) ⟨n0, n0, ?_⟩
      rw [e1, e2]
      refine gy_turnOf h hi j1 j2 (gp_bb (fun l => ?_) (fun l => w46 (gp_ex_s.mpr (Or.inl l))))
      refine gp_ble _ 0 rfl rfl (gp_sg_g _) r0 (fun z => ?_) (fun z => w46 (gp_ex_s.mpr (Or.inr ?_)))
      · have := w51 False ⟨fun q => q.elim, fun q => by
          rcases gp_ex_s.mp q with q | q
          · exact l q
          · unfold gp_t2 at q; rw [Int.sign_eq_one_of_pos q] at z; omega⟩
        rw [gp_b_f (fun q => q)] at this; exact this
      · unfold gp_t2
        rcases gp_sign_cases (gp_turn (P i) (P ((i + 1) % n)) (P ((i + 2) % n))) with ⟨e, w⟩ | ⟨e, w⟩ | ⟨e, w⟩
        · exact w
        · exact absurd (show (gp_turn (P i) (P ((i + 1) % n)) (P ((i + 2) % n))).sign ≤ 0 by omega) z
        · exact absurd (show (gp_turn (P i) (P ((i + 1) % n)) (P ((i + 2) % n))).sign ≤ 0 by omega) z
  unfold wpY_convex
  have l0 := loop n 0 (n + 1) (by omega) (by omega)
  rw [gp_b_f (c := ∃ j, j < 0 ∧ 0 < gp_t2 n P j) (fun z => by obtain ⟨j, hj, _⟩ := z; omega), gp_b_f (c := ∃ j, j < 0 ∧ gp_t2 n P j < 0) (fun z => by obtain ⟨j, hj, _⟩ := z; omega)] at l0
  exact ⟨n + 1, l0⟩
theorem gy_widest (h : gp_at n P xs ys) {post : Int32 → Prop} (hp : ∀ v, gp_mx P (fun a b => b < a ∧ a < n) v → post (gp_I v)) : wpY_widest post (nI n, pc, xs, ys, kx, ky, pr, cn) := by
  have h10 := h.1
  have inner : ∀ (J6 : Int32 → Int32 → Prop) (i : Nat), i < n → (∀ v, gp_mx P (fun a b => b < a ∧ a < i + 1) v → J6 (gp_I v) (nI (i + 1))) → ∀ (d k m : Nat) (v : Int), k + d = i → d < m → gp_mx P (fun a b => b < a ∧ (a < i ∨ (a = i ∧ b < k))) v → wY_widest_16 post J6 (nI i) (nI n) pc xs ys kx ky pr cn m (gp_I v) (nI k) := by
    intro J6 i hi hJ d
    induction d with
    | zero =>
      intro k m v e dm hv
      obtain ⟨m, rfl⟩ : ∃ m', m = m' + 1 := ⟨m - 1, by omega⟩
      rw [wY_widest_16]
      exact br_t (nI_le (by omega) (by omega)) (nm_r (nI_1 i) (hJ v (gp_mx_c hv fun a b => by omega)))
    | succ d ih =>
      intro k m v e dm hv
      obtain ⟨m, rfl⟩ : ∃ m', m = m' + 1 := ⟨m - 1, by omega⟩
      have hk : k < n := by omega
      have rd := gp_ds_r h hi hk
      have rv := gp_mx_r h hv (fun a b s => by omega)
      have nx := ih (k + 1) m _ (by omega) (by omega) (gp_mx_add (i := i) (k := k) hv (T := fun a b => b < a ∧ (a < i ∨ (a = i ∧ b < k + 1))) (fun a b => by omega))
      rw [wY_widest_16]
      refine br_f (nI_ge (by omega) (by omega)) ⟨gp_vi h hi, gp_vi h hk, ?_⟩
      rw [gp_rx h hi, gp_rx h hk, gp_ry h hi, gp_ry h hk]
      refine nm_r (gp_I_sub _ _).symm ⟨gp_vi h hi, gp_vi h hk, nm_r (gp_I_sub _ _).symm (nm_r (e' := gp_I (gp_ds P i k)) ?_ ?_)⟩
      · rw [← gp_I_mul, ← gp_I_mul, ← gp_I_add]; rfl
      · refine gp_ble _ _ rfl rfl (gp_rg_s (by omega)) (gp_rg_s (by omega)) (fun c => nm_r (nI_1 k) ?_) (fun c => nm_r (nI_1 k) ?_)
        · rw [if_pos c] at nx; exact nx
        · rw [if_neg c] at nx; exact nx
  have outer : ∀ (d i m : Nat) (v : Int), i + d = n → d < m → gp_mx P (fun a b => b < a ∧ a < i) v → wY_widest_6 post (nI n) pc xs ys kx ky pr cn m (gp_I v) (nI i) := by
    intro d
    induction d with
    | zero =>
      intro i m v e dm hv
      obtain ⟨m, rfl⟩ : ∃ m', m = m' + 1 := ⟨m - 1, by omega⟩
      rw [wY_widest_6]
      exact br_t (nI_le (by omega) (by omega)) (hp v (gp_mx_c hv fun a b => by omega))
    | succ d ih =>
      intro i m v e dm hv
      obtain ⟨m, rfl⟩ : ∃ m', m = m' + 1 := ⟨m - 1, by omega⟩
      rw [wY_widest_6]
      refine br_f (nI_ge (by omega) (by omega)) ⟨n + 1, ?_⟩
      exact inner _ i (by omega) (fun w hw => ih (i + 1) m w (by omega) (by omega) hw) i 0 (n + 1) v (by omega) (by omega) (gp_mx_c hv fun a b => by omega)
  unfold wpY_widest
  exact ⟨n + 1, outer n 0 (n + 1) (-1000) (by omega) (by omega) ⟨fun a b s => by omega, Or.inl rfl⟩⟩
end
end
section
/-! Y: the hull by pairs of corners -/
section
variable {n : Nat} {P : Nat → Int × Int} {pc : Int32} {xs ys kx ky pr cn : Nat → Int32}
theorem gy_isFirst (h : gp_at n P xs ys) {i : Nat} (hi : i < n) {post : Int32 → Prop} (hp : post (gp_b (gp_fst P i))) : wpY_isFirst post (nI n, pc, xs, ys, kx, ky, pr, cn) (nI i) := by
  have h10 := h.1
  have loop : ∀ (d k m : Nat), k + d = i → d < m → (∀ j, j < k → P j ≠ P i) → wY_isFirst_2 post (nI i) (nI n) pc xs ys kx ky pr cn m (nI k) := by
    intro d
    induction d with
    | zero =>
      intro k m e dm c
      obtain ⟨m, rfl⟩ : ∃ m', m = m' + 1 := ⟨m - 1, by omega⟩
      rw [wY_isFirst_2]
      exact br_t (nI_le (by omega) (by omega)) (gp_pt hp fun j hj => c j (by omega))
    | succ d ih =>
      intro k m e dm c
      obtain ⟨m, rfl⟩ : ∃ m', m = m' + 1 := ⟨m - 1, by omega⟩
      have hk : k < n := by omega
      have step : P k ≠ P i → wY_isFirst_2 post (nI i) (nI n) pc xs ys kx ky pr cn m (nI (k + 1)) := fun q => ih (k + 1) m (by omega) (by omega) fun j hj => by
        by_cases z : j = k
        · subst z; exact q
        · exact c j (by omega)
      rw [wY_isFirst_2]
      refine br_f (nI_ge (by omega) (by omega)) ⟨gp_vi h hk, gp_vi h hi, ?_⟩
      rw [gp_rx h hi, gp_rx h hk, gp_ry h hi, gp_ry h hk]
      refine gp_beq _ _ rfl rfl (gp_rr h hk).1 (gp_rr h hi).1 (fun c1 => ⟨gp_vi h hk, gp_vi h hi, ?_⟩) (fun c1 => nm_r (nI_1 k) (step fun z => c1 (by rw [z])))
      exact gp_beq _ _ rfl rfl (gp_rr h hk).2 (gp_rr h hi).2 (fun c2 => gp_pf hp fun z => z k (by omega) (Prod.ext c1 c2)) (fun c2 => nm_r (nI_1 k) (step fun z => c2 (by rw [z])))
  unfold wpY_isFirst
  exact ⟨n + 1, loop i 0 (n + 1) (by omega) (by omega) (fun j hj => by omega)⟩
theorem gy_isHullSide (h : gp_at n P xs ys) {i k : Nat} (hi : i < n) (hk : k < n) {post : Int32 → Prop} (hp : post (gp_b (gp_hsd P n i k))) : wpY_isHullSide post (nI n, pc, xs, ys, kx, ky, pr, cn) (nI i) (nI k) := by
  have h10 := h.1
  have r0 : gp_rg 0 := gp_rg_s (by omega)
  unfold wpY_isHullSide
  refine gp_neq (by omega) (by omega) (fun c => gp_pf hp fun z => z.1 c) (fun c1 => ?_)
  refine gy_isFirst h hi (gp_bb (fun c => gp_pf hp fun z => c z.2.1) (fun c2 => ?_))
  refine gy_isFirst h hk (gp_bb (fun c => gp_pf hp fun z => c z.2.2.1) (fun c3 => ⟨n + 1, ?_⟩))
  have loop : ∀ (d q m : Nat), q + d = n → d < m → (∀ j, j < q → 0 ≤ gp_turn (P i) (P k) (P j) ∧ (gp_turn (P i) (P k) (P j) = 0 → gp_os (P j) (P i) (P k))) →
      wY_isHullSide_28 post (nI i) (nI k) (nI n) pc xs ys kx ky pr cn m (gp_b (∃ j, j < q ∧ 0 < gp_turn (P i) (P k) (P j))) (nI q) := by
    intro d
    induction d with
    | zero =>
      intro q m e dm c
      obtain ⟨m, rfl⟩ : ∃ m', m = m' + 1 := ⟨m - 1, by omega⟩
      rw [wY_isHullSide_28, show q = n by omega]
      refine br_t (nI_le (by omega) (by omega)) ⟨gp_b_n _, ?_⟩
      rw [← gp_b_c (show gp_hsd P n i k ↔ _ from ⟨fun z => z.2.2.2.2, fun z => ⟨c1, c2, c3, fun j hj => c j (by omega), z⟩⟩)]
      exact hp
    | succ d ih =>
      intro q m e dm c
      obtain ⟨m, rfl⟩ : ∃ m', m = m' + 1 := ⟨m - 1, by omega⟩
      have hq : q < n := by omega
      have step : (0 ≤ gp_turn (P i) (P k) (P q) ∧ (gp_turn (P i) (P k) (P q) = 0 → gp_os (P q) (P i) (P k))) → wY_isHullSide_70 post (wY_isHullSide_28 post (nI i) (nI k) (nI n) pc xs ys kx ky pr cn m) (nI i) (nI k) (gp_b (∃ j, j < q ∧ 0 < gp_turn (P i) (P k) (P j))) (nI q) (gp_I (gp_turn (P i) (P k) (P q)).sign) (nI n) pc xs ys kx ky pr cn := by
        intro cq
        have nx := ih (q + 1) m (by omega) (by omega) (fun j hj => by
          by_cases z : j = q
          · subst z; exact cq
          · exact c j (by omega))
        unfold wY_isHullSide_70
        refine gp_bb (fun a => gp_ble _ 0 rfl rfl (gp_sg_g _) r0 (fun t => nm_r (nI_1 q) ?_) (fun t => nm_r (nI_1 q) ?_)) (fun a => nm_r (nI_1 q) ?_)
        · rw [gp_b_f (fun z => by
            rcases gp_ex_s.mp z with z | z
            · exact a z
            · rw [Int.sign_eq_one_of_pos z] at t; omega)] at nx; exact nx
        · have : 0 < gp_turn (P i) (P k) (P q) := by
            rcases gp_sign_cases (gp_turn (P i) (P k) (P q)) with ⟨e, w⟩ | ⟨e, w⟩ | ⟨e, w⟩
            · exact w
            · exact absurd (show (gp_turn (P i) (P k) (P q)).sign ≤ 0 by omega) t
            · exact absurd (show (gp_turn (P i) (P k) (P q)).sign ≤ 0 by omega) t
          rw [gp_b_t (c := ∃ j, j < q + 1 ∧ 0 < gp_turn (P i) (P k) (P j)) (gp_ex_s.mpr (Or.inr this))] at nx; exact nx
        · rw [gp_b_t (c := ∃ j, j < q + 1 ∧ 0 < gp_turn (P i) (P k) (P j)) (gp_ex_s.mpr (Or.inl a))] at nx; exact nx
      have stop : ¬ (0 ≤ gp_turn (P i) (P k) (P q) ∧ (gp_turn (P i) (P k) (P q) = 0 → gp_os (P q) (P i) (P k))) → post 0 := fun z => gp_pf hp fun w => z (w.2.2.2.1 q hq)
      rw [wY_isHullSide_28]
      refine br_f (nI_ge (by omega) (by omega)) (gy_turnOf h hi hk hq ?_)
      have sc := gp_sign_cases (gp_turn (P i) (P k) (P q))
      refine gp_blt _ 0 rfl rfl (gp_sg_g _) r0 (fun t => stop (by omega)) (fun t => ?_)
      refine gp_beq _ 0 rfl rfl (gp_sg_g _) r0 (fun t2 => ?_) (fun t2 => step ⟨by omega, fun z => by omega⟩)
      exact gy_isBetween h hi hk hq (gp_bb (fun o => stop fun z => o (z.2 (by omega))) (fun o => step ⟨by omega, fun _ => o⟩))
  have l0 := loop n 0 (n + 1) (by omega) (by omega) (fun j hj => by omega)
  rw [gp_b_f (fun z => by obtain ⟨j, hj, _⟩ := z; omega)] at l0
  exact l0
/-- sums over pairs of corners -/
noncomputable def gp_hf (n : Nat) (P : Nat → Int × Int) (val : Int × Int → Int × Int → Int) (i k : Nat) : Int := gp_dd (gp_hsd P n i k) * val (P i) (P k)
noncomputable def gp_hsum (n : Nat) (P : Nat → Int × Int) (val : Int × Int → Int × Int → Int) : Int := gp_sm (fun i => gp_sm (fun k => gp_hf n P val i k) n) n
theorem gp_hf_c {i k : Nat} {val : Int × Int → Int × Int → Int} (s : Int) {A B : Prop} (f : ¬ gp_hsd P n i k → (s + gp_hf n P val i k = s) → A) (g : gp_hsd P n i k → (s + gp_hf n P val i k = s + val (P i) (P k)) → B) : (gp_b (gp_hsd P n i k) = 0 → A) ∧ (¬ gp_b (gp_hsd P n i k) = 0 → B) := by
  refine gp_bb (fun c => f c ?_) (fun c => g c ?_)
  · unfold gp_hf; rw [gp_dd_f c, Int.zero_mul, Int.add_zero]
  · unfold gp_hf; rw [gp_dd_t c, Int.one_mul]
theorem gy_hull (h : gp_at n P xs ys) (hr : gp_rg (gp_hsum n P (fun _ _ => 1))) {post : Int32 → Prop} (h0 : gp_hsum n P (fun _ _ => 1) = 0 → post (-1000)) (h1 : gp_hsum n P (fun _ _ => 1) ≠ 0 → post (gp_I (gp_hsum n P (fun _ _ => 1)))) : wpY_hull post (nI n, pc, xs, ys, kx, ky, pr, cn) := by
  have h10 := h.1
  have inner : ∀ (J4 : Int32 → Int32 → Prop) (i : Nat) (s : Int), i < n → J4 (gp_I (s + gp_sm (fun k => gp_hf n P (fun _ _ => 1) i k) n)) (nI (i + 1)) → ∀ (d k m : Nat), k + d = n → d < m → wY_hull_14 post J4 (nI i) (nI n) pc xs ys kx ky pr cn m (gp_I (s + gp_sm (fun k => gp_hf n P (fun _ _ => 1) i k) k)) (nI k) := by
    intro J4 i s hi hJ d
    induction d with
    | zero =>
      intro k m e dm
      obtain ⟨m, rfl⟩ : ∃ m', m = m' + 1 := ⟨m - 1, by omega⟩
      rw [wY_hull_14, show k = n by omega]
      exact br_t (nI_le (by omega) (by omega)) (nm_r (nI_1 i) hJ)
    | succ d ih =>
      intro k m e dm
      obtain ⟨m, rfl⟩ : ∃ m', m = m' + 1 := ⟨m - 1, by omega⟩
      have hk : k < n := by omega
      have nx := ih (k + 1) m (by omega) (by omega)
      rw [gp_sm_s, ← Int.add_assoc] at nx
      rw [wY_hull_14]
      refine br_f (nI_ge (by omega) (by omega)) (gy_isHullSide h hi hk (gp_hf_c (val := fun _ _ => 1) (s + gp_sm (fun k => gp_hf n P (fun _ _ => 1) i k) k) (fun c q => nm_r (nI_1 k) ?_) (fun c q => nm_r (gp_I_add _ 1).symm (nm_r (nI_1 k) ?_))))
      · rw [q] at nx; exact nx
      · rw [q] at nx; exact nx
  have outer : ∀ (d i m : Nat), i + d = n → d < m → wY_hull_4 post (nI n) pc xs ys kx ky pr cn m (gp_I (gp_sm (fun i => gp_sm (fun k => gp_hf n P (fun _ _ => 1) i k) n) i)) (nI i) := by
    intro d
    induction d with
    | zero =>
      intro i m e dm
      obtain ⟨m, rfl⟩ : ∃ m', m = m' + 1 := ⟨m - 1, by omega⟩
      rw [wY_hull_4, show i = n by omega]
      exact br_t (nI_le (by omega) (by omega)) (gp_beq _ 0 rfl rfl hr (gp_rg_s (by omega)) h0 h1)
    | succ d ih =>
      intro i m e dm
      obtain ⟨m, rfl⟩ : ∃ m', m = m' + 1 := ⟨m - 1, by omega⟩
      have nx := ih (i + 1) m (by omega) (by omega)
      rw [gp_sm_s] at nx
      rw [wY_hull_4]
      refine br_f (nI_ge (by omega) (by omega)) ⟨n + 1, ?_⟩
      have := inner _ i _ (by omega) nx n 0 (n + 1) (by omega) (by omega)
      rw [gp_sm_0, Int.add_zero] at this
      exact this
  unfold wpY_hull
  exact ⟨n + 1, outer n 0 (n + 1) (by omega) (by omega)⟩
theorem gy_hullArea (h : gp_at n P xs ys) (hr : gp_rg (gp_hsum n P gp_cr)) {post : Int32 → Prop} (h0 : gp_hsum n P gp_cr = 0 → post (-1000)) (h1 : gp_hsum n P gp_cr ≠ 0 → post (gp_I (gp_hsum n P gp_cr))) : wpY_hullArea post (nI n, pc, xs, ys, kx, ky, pr, cn) := by
  have h10 := h.1
  have inner : ∀ (J4 : Int32 → Int32 → Prop) (i : Nat) (s : Int), i < n → J4 (gp_I (s + gp_sm (fun k => gp_hf n P gp_cr i k) n)) (nI (i + 1)) → ∀ (d k m : Nat), k + d = n → d < m → wY_hullArea_14 post J4 (nI i) (nI n) pc xs ys kx ky pr cn m (gp_I (s + gp_sm (fun k => gp_hf n P gp_cr i k) k)) (nI k) := by
    intro J4 i s hi hJ d
    induction d with
    | zero =>
      intro k m e dm
      obtain ⟨m, rfl⟩ : ∃ m', m = m' + 1 := ⟨m - 1, by omega⟩
      rw [wY_hullArea_14, show k = n by omega]
      exact br_t (nI_le (by omega) (by omega)) (nm_r (nI_1 i) hJ)
    | succ d ih =>
      intro k m e dm
      obtain ⟨m, rfl⟩ : ∃ m', m = m' + 1 := ⟨m - 1, by omega⟩
      have hk : k < n := by omega
      have nx := ih (k + 1) m (by omega) (by omega)
      rw [gp_sm_s, ← Int.add_assoc] at nx
      rw [wY_hullArea_14]
      refine br_f (nI_ge (by omega) (by omega)) (gy_isHullSide h hi hk (gp_hf_c (val := gp_cr) (s + gp_sm (fun k => gp_hf n P gp_cr i k) k) (fun c q => nm_r (nI_1 k) ?_) (fun c q => ⟨gp_vi h hi, gp_vi h hk, gp_vi h hk, gp_vi h hi, nm_r (e' := gp_I (s + gp_sm (fun k => gp_hf n P gp_cr i k) k + gp_cr (P i) (P k))) ?_ (nm_r (nI_1 k) ?_)⟩)))
      · rw [q] at nx; exact nx
      · rw [gp_rx h hi, gp_rx h hk, gp_ry h hi, gp_ry h hk, ← gp_I_mul, ← gp_I_mul, ← gp_I_add, ← gp_I_sub]
        refine congrArg gp_I ?_
        unfold gp_cr
        omega
      · rw [q] at nx; exact nx
  have outer : ∀ (d i m : Nat), i + d = n → d < m → wY_hullArea_4 post (nI n) pc xs ys kx ky pr cn m (gp_I (gp_sm (fun i => gp_sm (fun k => gp_hf n P gp_cr i k) n) i)) (nI i) := by
    intro d
    induction d with
    | zero =>
      intro i m e dm
      obtain ⟨m, rfl⟩ : ∃ m', m = m' + 1 := ⟨m - 1, by omega⟩
      rw [wY_hullArea_4, show i = n by omega]
      exact br_t (nI_le (by omega) (by omega)) (gp_beq _ 0 rfl rfl hr (gp_rg_s (by omega)) h0 h1)
    | succ d ih =>
      intro i m e dm
      obtain ⟨m, rfl⟩ : ∃ m', m = m' + 1 := ⟨m - 1, by omega⟩
      have nx := ih (i + 1) m (by omega) (by omega)
      rw [gp_sm_s] at nx
      rw [wY_hullArea_4]
      refine br_f (nI_ge (by omega) (by omega)) ⟨n + 1, ?_⟩
      have := inner _ i _ (by omega) nx n 0 (n + 1) (by omega) (by omega)
      rw [gp_sm_0, Int.add_zero] at this
      exact this
  unfold wpY_hullArea
  exact ⟨n + 1, outer n 0 (n + 1) (by omega) (by omega)⟩
end
end
section
/-! X: the hull along chains -/
def gp_Or (n : Nat) (P : Nat → Int × Int) (m : Nat) (o : Nat → Nat) (od : Nat → Int32) : Prop :=
  (∀ j, j < m → od j = nI (o j) ∧ o j < m) ∧ (∀ a, a < m → ∃ j, j < m ∧ o j = a)
section
variable {n : Nat} {P : Nat → Int × Int} {fw : Int32} {xs ys ln wy od wr : Nat → Int32}
theorem gx_isBefore (h : gp_at n P xs ys) {i j : Nat} (hi : i < n) (hj : j < n) {post : Int32 → Prop} (hp : post (gp_b (gp_f gp_G (P i) < gp_f gp_G (P j)))) : wpX_isBefore post (nI n, fw, xs, ys, ln, wy, od, wr) (nI i) (nI j) := by
  have b1 := gp_rb h hi
  have b2 := gp_rb h hj
  have e : ∀ a : Int × Int, gp_f gp_G a = 64 * a.1 + a.2 := fun a => by unfold gp_f gp_G; dsimp only; omega
  rw [e, e] at hp
  unfold wpX_isBefore
  refine ⟨gp_vi h hi, gp_vi h hj, ?_⟩
  rw [gp_rx h hi, gp_rx h hj, gp_ry h hi, gp_ry h hj]
  refine gp_beq _ _ rfl rfl (gp_rr h hi).1 (gp_rr h hj).1 (fun c => ⟨gp_vi h hi, gp_vi h hj, ?_⟩) (fun c => ⟨gp_vi h hi, gp_vi h hj, ?_⟩)
  · exact gp_ble _ _ rfl rfl (gp_rr h hj).2 (gp_rr h hi).2 (fun d => gp_pf hp (by omega)) (fun d => gp_pt hp (by omega))
  · exact gp_ble _ _ rfl rfl (gp_rr h hj).1 (gp_rr h hi).1 (fun d => gp_pf hp (by omega)) (fun d => gp_pt hp (by omega))
/-- sinking one corner -/
theorem gx_sort19 (h : gp_at n P xs ys) {post : SX → Prop} {J2 : Int32 → (Nat → Int32) → (Nat → Int32) → (Nat → Int32) → (Nat → Int32) → (Nat → Int32) → (Nat → Int32) → Prop} {i : Nat} (hi : i < n)
    (hJ : ∀ od' o, gp_Or n P (i + 1) o od' → (∀ a b, a ≤ b → b < i + 1 → gp_f gp_G (P (o a)) ≤ gp_f gp_G (P (o b))) → J2 (nI (i + 1)) xs ys ln wy od' wr) :
    ∀ (k m : Nat) (od : Nat → Int32) (o : Nat → Nat), k ≤ i → k < m → gp_Or n P (i + 1) o od →
      (∀ a b, a < b → b < i + 1 → a ≠ k → b ≠ k → gp_f gp_G (P (o a)) ≤ gp_f gp_G (P (o b))) → (∀ b, k < b → b < i + 1 → gp_f gp_G (P (o k)) ≤ gp_f gp_G (P (o b))) →
      wX_sortCorners_19 post J2 (nI i) (nI n) fw m (nI k) xs ys ln wy od wr := by
  have h10 := h.1
  intro k
  induction k with
  | zero =>
    intro m od o ki km hO s1 s2
    obtain ⟨m, rfl⟩ : ∃ m', m = m' + 1 := ⟨m - 1, by omega⟩
    rw [wX_sortCorners_19]
    refine br_t (by decide) (nm_r (nI_1 i) (hJ od o hO fun a b ab bi => ?_))
    by_cases e : a = b
    · rw [e]; exact Int.le_refl _
    · by_cases e0 : a = 0
      · rw [e0]; exact s2 b (by omega) bi
      · exact s1 a b (by omega) bi e0 (by omega)
  | succ k ih =>
    intro m od o ki km hO s1 s2
    obtain ⟨m, rfl⟩ : ∃ m', m = m' + 1 := ⟨m - 1, by omega⟩
    have c1 : (nI (k + 1)).toNatClampNeg = k + 1 := gp_cl (by omega)
    have c0 : (nI k).toNatClampNeg = k := gp_cl (by omega)
    have o1 := hO.1 (k + 1) (by omega)
    have o0 := hO.1 k (by omega)
    have v1 : vp_in (nI (k + 1)) 10 := vp_in_nI (by omega) (by omega)
    have v0 : vp_in (nI k) 10 := vp_in_nI (by omega) (by omega)
    rw [wX_sortCorners_19]
    dsimp only
    rw [nI_pred, c1, c0, o1.1, o0.1]
    refine br_f (nI_nle (by omega) (by omega)) ⟨v1, v0, gx_isBefore h (by omega) (by omega) (gp_bb (fun c => nm_r (nI_1 i) ?_) (fun c => ⟨v1, nm_e ⟨v0, v1, nm_e ⟨v0, nm_e (nm_r (pk_m1 k) ?_)⟩⟩⟩))⟩
    · refine hJ od o hO fun a b ab bi => ?_
      by_cases e : a = b
      · rw [e]; exact Int.le_refl _
      · by_cases ea : a = k + 1
        · rw [ea]; exact s2 b (by omega) bi
        · by_cases eb : b = k + 1
          · rw [eb]
            by_cases ek : a = k
            · rw [ek]; omega
            · have := s1 a k (by omega) (by omega) ea (by omega)
              omega
          · exact s1 a b (by omega) bi ea eb
    · refine ih m _ (fun j => if j = k then o (k + 1) else if j = k + 1 then o k else o j) (by omega) (by omega) ⟨fun j hj => ?_, fun a ha => ?_⟩ (fun a b ab bi na nb => ?_) (fun b kb bi => ?_)
      · unfold upd
        dsimp only
        by_cases e : j = k
        · rw [if_pos e, if_pos e]; exact ⟨rfl, by omega⟩
        · rw [if_neg e, if_neg e]
          by_cases e' : j = k + 1
          · rw [if_pos e', if_pos e']; exact ⟨rfl, by omega⟩
          · rw [if_neg e', if_neg e']; exact hO.1 j hj
      · obtain ⟨j, hj, ej⟩ := hO.2 a ha
        by_cases e : j = k
        · exact ⟨k + 1, by omega, by dsimp only; rw [if_neg (by omega), if_pos rfl, ← e]; exact ej⟩
        · by_cases e' : j = k + 1
          · exact ⟨k, by omega, by dsimp only; rw [if_pos rfl, ← e']; exact ej⟩
          · exact ⟨j, hj, by dsimp only; rw [if_neg e, if_neg e']; exact ej⟩
      · (try dsimp only)
        rw [if_neg na, if_neg nb]
        by_cases ea : a = k + 1
        · rw [if_pos ea, if_neg (by omega)]
          exact s1 k b (by omega) bi (by omega) (by omega)
        · rw [if_neg ea]
          by_cases eb : b = k + 1
          · rw [if_pos eb]; exact s1 a k (by omega) (by omega) ea (by omega)
          · rw [if_neg eb]; exact s1 a b ab bi ea eb
      · (try dsimp only)
        rw [if_pos rfl, if_neg (by omega)]
        by_cases eb : b = k + 1
        · rw [if_pos eb]; omega
        · rw [if_neg eb]; exact s2 b (by omega) bi
theorem gx_sortCorners (h : gp_at n P xs ys) {post : SX → Prop} (hp : ∀ od' o, gp_Or n P n o od' → (∀ a b, a ≤ b → b < n → gp_f gp_G (P (o a)) ≤ gp_f gp_G (P (o b))) → post (nI n, fw, xs, ys, ln, wy, od', wr)) : wpX_sortCorners post (nI n, fw, xs, ys, ln, wy, od, wr) := by
  have h10 := h.1
  have loop : ∀ (d i m : Nat) (od : Nat → Int32) (o : Nat → Nat), i + d = n → d < m → gp_Or n P i o od → (∀ a b, a ≤ b → b < i → gp_f gp_G (P (o a)) ≤ gp_f gp_G (P (o b))) → wX_sortCorners_2 post (nI n) fw m (nI i) xs ys ln wy od wr := by
    intro d
    induction d with
    | zero =>
      intro i m od o e dm hO s
      obtain ⟨m, rfl⟩ : ∃ m', m = m' + 1 := ⟨m - 1, by omega⟩
      rw [wX_sortCorners_2]
      have : i = n := by omega
      subst this
      exact br_t (nI_le (by omega) (by omega)) (hp od o hO s)
    | succ d ih =>
      intro i m od o e dm hO s
      obtain ⟨m, rfl⟩ : ∃ m', m = m' + 1 := ⟨m - 1, by omega⟩
      have hi : i < n := by omega
      rw [wX_sortCorners_2]
      refine br_f (nI_ge (by omega) (by omega)) ⟨gp_vi h hi, nm_e ⟨n + 1, ?_⟩⟩
      rw [gp_cl (by omega)]
      refine gx_sort19 h hi (fun od' o' hO' s' => ih (i + 1) m od' o' (by omega) (by omega) hO' s') i (n + 1) _ (fun j => if j = i then i else o j) (by omega) (by omega) ⟨fun j hj => ?_, fun a ha => ?_⟩ (fun a b ab bi na nb => ?_) (fun b kb bi => by omega)
      · unfold upd
        dsimp only
        by_cases c : j = i
        · rw [if_pos c, if_pos c]; exact ⟨rfl, by omega⟩
        · rw [if_neg c, if_neg c]
          have := hO.1 j (by omega)
          exact ⟨this.1, by omega⟩
      · by_cases c : a = i
        · exact ⟨i, by omega, by dsimp only; rw [if_pos rfl, c]⟩
        · obtain ⟨j, hj, ej⟩ := hO.2 a (by omega)
          exact ⟨j, by omega, by dsimp only; rw [if_neg (by omega)]; exact ej⟩
      · (try dsimp only)
        rw [if_neg na, if_neg nb]
        exact s a b (by omega) (by omega)
  unfold wpX_sortCorners
  exact ⟨n + 1, loop n 0 (n + 1) od (fun j => j) (by omega) (by omega) ⟨fun j hj => by omega, fun a ha => by omega⟩ (fun a b ab bi => by omega)⟩
/-- one corner more on the hull under work; b the number kept below -/
theorem gx_wrapIn (h : gp_at n P xs ys) {post : SX → Prop} {b k c : Nat} {ws : Nat → Nat} (hb : b + k ≤ 20) (hk : k ≤ 12) (hc : c < n) (hw : ∀ j, j < b + k → wr j = nI (ws j) ∧ ws j < n)
    (hp : post (nI n, nI (b + gp_pop (fun j => P (ws (b + j))) (P c) k + 1), xs, ys, ln, wy, od, upd wr (b + gp_pop (fun j => P (ws (b + j))) (P c) k) (nI c))) :
    wpX_wrapIn post (nI n, nI (b + k), xs, ys, ln, wy, od, wr) (nI c) (nI b) := by
  have r0 : gp_rg 0 := gp_rg_s (by omega)
  have w82 : ∀ q, q ≤ 20 → post (nI n, nI (q + 1), xs, ys, ln, wy, od, upd wr q (nI c)) → wX_wrapIn_82 post (nI c) (nI n) (nI q) xs ys ln wy od wr := by
    intro q hq hpq
    unfold wX_wrapIn_82
    refine ⟨vp_in_nI (by omega) (by omega), nm_e (nm_r (nI_1 q) ?_)⟩
    rw [gp_cl (by omega)]; exact hpq
  have loop : ∀ (k i m : Nat), b + k ≤ 20 → i + k < 20 → k + 2 ≤ m → (∀ j, j < b + k → wr j = nI (ws j) ∧ ws j < n) →
      post (nI n, nI (b + gp_pop (fun j => P (ws (b + j))) (P c) k + 1), xs, ys, ln, wy, od, upd wr (b + gp_pop (fun j => P (ws (b + j))) (P c) k) (nI c)) →
      wX_wrapIn_5 post (nI c) (nI b) (nI n) xs ys ln wy od wr m 1 (nI i) (nI (b + k)) := by
    intro k
    induction k with
    | zero =>
      intro i m bk ik km hw hp
      obtain ⟨m, rfl⟩ : ∃ m', m = m' + 1 := ⟨m - 1, by omega⟩
      rw [wX_wrapIn_5]
      refine br_f (nI_ge (b := 20) (by omega) (by omega)) (br_f gp_one_ne ?_)
      rw [show nI b + 2 = nI (b + 2) from (by rw [← nI_add]; rfl)]
      exact br_t (nI_lt (by omega) (by omega)) (w82 (b + 0) (by omega) hp)
    | succ k ih =>
      intro i m bk ik km hw hp
      obtain ⟨m, rfl⟩ : ∃ m', m = m' + 1 := ⟨m - 1, by omega⟩
      rw [wX_wrapIn_5]
      refine br_f (nI_ge (b := 20) (by omega) (by omega)) (br_f gp_one_ne ?_)
      rw [show nI b + 2 = nI (b + 2) from (by rw [← nI_add]; rfl)]
      cases k with
      | zero => exact br_t (nI_lt (by omega) (by omega)) (w82 (b + 1) (by omega) hp)
      | succ k =>
        have e2 : nI (b + (k + 1 + 1)) - 2 = nI (b + k) := by
          rw [show (2 : Int32) = nI 2 from rfl, pk_sub (by omega)]; exact congrArg nI (by omega)
        have e1 : nI (b + (k + 1 + 1)) - 1 = nI (b + (k + 1)) := by
          rw [show (1 : Int32) = nI 1 from rfl, pk_sub (by omega)]; exact congrArg nI (by omega)
        have w2 := hw (b + k) (by omega)
        have w1 := hw (b + (k + 1)) (by omega)
        rw [e2, e1]
        refine br_f (nI_nlt (by omega) (by omega)) ⟨vp_in_nI (by omega) (by omega), vp_in_nI (by omega) (by omega), ?_⟩
        rw [gp_cl (by omega), gp_cl (by omega), w2.1, w1.1]
        refine gx_turnOf h w2.2 w1.2 hc ?_
        rw [gp_pop] at hp
        refine gp_blt 0 _ rfl rfl r0 (gp_turn_g (gp_ri h w2.2) (gp_ri h w1.2) (gp_ri h hc)) (fun t => ?_) (fun t => ?_)
        · rw [if_neg (by omega)] at hp
          unfold wX_wrapIn_61
          refine br_t rfl (nm_r (nI_1 i) ?_)
          obtain ⟨m, rfl⟩ : ∃ m', m = m' + 1 := ⟨m - 1, by omega⟩
          rw [wX_wrapIn_5]
          exact br_f (nI_ge (b := 20) (by omega) (by omega)) (br_t rfl (w82 (b + (k + 2)) (by omega) hp))
        · rw [if_pos (by omega)] at hp
          unfold wX_wrapIn_61
          rw [e1]
          refine br_f gp_one_ne (nm_e (nm_r (nI_1 i) ?_))
          exact ih (i + 1) m (by omega) (by omega) (by omega) (fun j hj => hw j (by omega)) hp
  unfold wpX_wrapIn
  exact ⟨k + 2, loop k 0 (k + 2) hb (by omega) (by omega) hw hp⟩
end
/-- the hull as the reference sees it, and the hull of X: M corners, the sum S -/
def gp_HF (n : Nat) (P : Nat → Int × Int) (M : Nat) (S : Int) : Prop :=
  (gp_hsum n P gp_cr = 0 ∧ gp_hsum n P (fun _ _ => 1) = 0 ∧ S = 0) ∨ (0 < S ∧ gp_hsum n P gp_cr = S ∧ gp_hsum n P (fun _ _ => 1) = M ∧ 0 < M)
theorem gp_HF_of {n : Nat} {P : Nat → Int × Int} (hn : 1 ≤ n) (hin : ∀ i, i < n → gp_in (P i)) (o : Nat → Nat) (ho : ∀ j, j < n → o j < n) (hs : ∀ i, i < n → ∃ j, j < n ∧ o j = i)
    (srt : ∀ a b, a ≤ b → b < n → gp_f gp_G (P (o a)) ≤ gp_f gp_G (P (o b))) {w : Nat → Int × Int} {k1 k2 : Nat} (k12 : 2 ≤ k1) (k22 : 2 ≤ k2)
    (hL : gp_St gp_G (fun i => P (o i)) n w k1) (hU : gp_St gp_G' (fun i => P (o (n - 1 - i))) n (fun j => w (k1 - 1 + j)) k2) :
    gp_HF n P (k1 - 1 + k2 - 1) (gp_sm (fun i => gp_cr (w i) (w (if i + 1 = k1 - 1 + k2 - 1 then 0 else i + 1))) (k1 - 1 + k2 - 1)) := by
  have e0 : w 0 = w (k1 - 1 + (k2 - 1)) := by
    have a := hL.2.2.1
    have b := hU.2.2.2.1
    dsimp only at a b
    rw [show n - 1 - (n - 1) = 0 by omega] at b
    rw [a, b]
  have S : gp_sm (fun i => gp_cr (w i) (w (if i + 1 = k1 - 1 + k2 - 1 then 0 else i + 1))) (k1 - 1 + k2 - 1) = gp_sm (fun j => gp_cr (w j) (w (j + 1))) (k1 - 1) + gp_sm (fun j => gp_cr (w (k1 - 1 + j)) (w (k1 - 1 + (j + 1)))) (k2 - 1) := by
    rw [show k1 - 1 + k2 - 1 = k1 - 1 + (k2 - 1) by omega, gp_sm_app]
    refine gp_add2 (gp_sm_congr fun j hj => ?_) (gp_sm_congr fun j hj => ?_)
    · rw [if_neg (by omega)]
    · by_cases c : k1 - 1 + j + 1 = k1 - 1 + (k2 - 1)
      · rw [if_pos c, e0, show k1 - 1 + (j + 1) = k1 - 1 + (k2 - 1) by omega]
      · rw [if_neg c]; rfl
  rw [S]
  rcases gp_hull hn hin o ho hs srt hL hU with ⟨h1, h2⟩ | ⟨h1, _, h3⟩
  · left
    have z : ∀ val, gp_hsum n P val = 0 := fun val => gp_sm_zero fun i hi => gp_sm_zero fun l hl => by
      unfold gp_hf; rw [gp_dd_f (h1 i l hi hl), Int.zero_mul]
    exact ⟨z _, z _, h2⟩
  · right
    refine ⟨h1, h3 gp_cr, ?_, by omega⟩
    have := h3 (fun _ _ => 1)
    rw [gp_sm_const, gp_sm_const] at this
    unfold gp_hsum gp_hf
    rw [this]
    omega
end
section
/-! X: both passes, the hull's area -/
section
variable {n : Nat} {P : Nat → Int × Int} {fw : Int32} {xs ys ln wy od wr : Nat → Int32}
theorem gx_wrapAll (h : gp_at n P xs ys) (h3 : 3 ≤ n) {post : SX → Prop}
    (hp : ∀ (od' wr' : Nat → Int32) (M : Nat) (ws : Nat → Nat), 0 < M → M ≤ 20 → (∀ j, j < M → wr' j = nI (ws j) ∧ ws j < n) →
      gp_HF n P M (gp_sm (fun i => gp_cr (P (ws i)) (P (ws (if i + 1 = M then 0 else i + 1)))) M) → post (nI n, nI M, xs, ys, ln, wy, od', wr')) : wpX_wrapAll post (nI n, fw, xs, ys, ln, wy, od, wr) := by
  have h10 := h.1
  unfold wpX_wrapAll
  refine gx_sortCorners h fun od' o hO srt => ?_
  have ho : ∀ j, j < n → o j < n := fun j hj => (hO.1 j hj).2
  have hs : ∀ i, i < n → ∃ j, j < n ∧ o j = i := hO.2
  have hin : ∀ i, i < n → gp_in (P i) := fun i hi => gp_ri h hi
  have inj : ∀ i j, i < n → j < n → gp_f gp_G (P (o i)) = gp_f gp_G (P (o j)) → P (o i) = P (o j) := fun i j hi hj => gp_G_inj (hin _ (ho i hi)) (hin _ (ho j hj))
  -- the second pass
  have pass2 : ∀ (ws0 : Nat → Nat) (k1 : Nat), 2 ≤ k1 → k1 ≤ n → gp_St gp_G (fun i => P (o i)) n (fun j => P (ws0 j)) k1 → ∀ (d t m k : Nat) (wr : Nat → Int32) (ws : Nat → Nat), t + d = n - 1 → d < m → 1 ≤ k → k ≤ t + 1 → (1 ≤ t → 2 ≤ k) →
      (∀ j, j < k1 → ws j = ws0 j) → (∀ j, j < k1 - 1 + k → wr j = nI (ws j) ∧ ws j < n) → gp_St gp_G' (fun i => P (o (n - 1 - i))) (t + 1) (fun j => P (ws (k1 - 1 + j))) k →
      wX_wrapAll_50 post (nI (k1 - 1)) m (gp_I ((n : Int) - 2 - t)) (nI n) (nI (k1 - 1 + k)) xs ys ln wy od' wr := by
    intro ws0 k1 k12 k1n hL d
    induction d with
    | zero =>
      intro t m k wr ws e dm k0 kt tk wl hw hU
      obtain ⟨m, rfl⟩ : ∃ m', m = m' + 1 := ⟨m - 1, by omega⟩
      rw [wX_wrapAll_50]
      have e1 : nI (k1 - 1 + k) - 1 = nI (k1 - 1 + k - 1) := by
        rw [show (1 : Int32) = nI 1 from rfl, pk_sub (by omega)]
      have lt : gp_I ((n : Int) - 2 - t) < 0 := by rw [gp_I_0, gp_I_lt (gp_rg_s (by omega)) (gp_rg_s (by omega))]; omega
      refine br_t lt (nm_r e1 (hp od' wr (k1 - 1 + k - 1) ws (by omega) (by omega) (fun j hj => hw j (by omega)) ?_))
      rw [show t + 1 = n by omega] at hU
      have hL' : gp_St gp_G (fun i => P (o i)) n (fun j => P (ws j)) k1 := by
        obtain ⟨a1, a2, a3, a4, a5⟩ := hL
        have q : ∀ j, j < k1 → P (ws j) = P (ws0 j) := fun j hj => by rw [wl j hj]
        refine ⟨a1, a2, by (try dsimp only); rw [q 0 (by omega)]; exact a3, by (try dsimp only); rw [q (k1 - 1) (by omega)]; exact a4, a5.elim Or.inl fun ⟨c1, c2, c3, c4, c5⟩ => Or.inr ⟨c1, fun j hj => ?_, fun j hj => ?_, fun i j hi hj => ?_, fun j hj => ?_⟩⟩
        · (try dsimp only); rw [q j (by omega), q (j + 1) (by omega)]; exact c2 j hj
        · (try dsimp only); rw [q j (by omega), q (j + 1) (by omega), q (j + 2) (by omega)]; exact c3 j hj
        · (try dsimp only); rw [q j (by omega), q (j + 1) (by omega)]; exact c4 i j hi hj
        · (try dsimp only); rw [q j hj]; exact c5 j hj
      exact gp_HF_of (w := fun j => P (ws j)) (by omega) hin o ho hs srt k12 (tk (by omega)) hL' hU
    | succ d ih =>
      intro t m k wr ws e dm k0 kt tk wl hw hU
      obtain ⟨m, rfl⟩ : ∃ m', m = m' + 1 := ⟨m - 1, by omega⟩
      have ci : n - 2 - t < n := by omega
      have e2 : gp_I ((n : Int) - 2 - t) = nI (n - 2 - t) := by rw [gp_nI]; exact congrArg gp_I (by omega)
      have e3 : nI (n - 2 - t) + (-1) = gp_I ((n : Int) - 2 - ((t + 1 : Nat) : Int)) := by
        rw [gp_nI, gp_I_m1, ← gp_I_add]; exact congrArg gp_I (by omega)
      have ple := gp_pop_le (fun j => P (ws (k1 - 1 + j))) (P (o (n - 2 - t))) k
      have p1 := ple.2 k0
      have oi := hO.1 (n - 2 - t) ci
      rw [wX_wrapAll_50, e2]
      refine br_f (nI_pos (by omega)) ⟨vp_in_nI (by omega) (by omega), ?_⟩
      rw [gp_cl (by omega), oi.1]
      refine gx_wrapIn (ws := ws) h (by omega) (by omega) oi.2 hw (nm_r e3 ?_)
      generalize hpp : gp_pop (fun j => P (ws (k1 - 1 + j))) (P (o (n - 2 - t))) k = pp at *
      have := ih (t + 1) m (pp + 1) (upd wr (k1 - 1 + pp) (nI (o (n - 2 - t)))) (fun j => if j = k1 - 1 + pp then o (n - 2 - t) else ws j) (by omega) (by omega) (by omega) (by omega) (fun _ => by omega)
        (fun j hj => by (try dsimp only); rw [if_neg (by omega)]; exact wl j hj)
        (fun j hj => by
          unfold upd
          (try dsimp only)
          by_cases c : j = k1 - 1 + pp
          · rw [if_pos c, if_pos c]; exact ⟨rfl, oi.2⟩
          · rw [if_neg c, if_neg c]; exact hw j (by omega))
        (by
          have zz : n - 1 - (t + 1) = n - 2 - t := by omega
          have st := gp_St_step (u := gp_G') (z := fun i => P (o (n - 1 - i))) (m := t + 1) (st := fun j => P (ws (k1 - 1 + j))) (st' := fun j => P ((fun j => if j = k1 - 1 + pp then o (n - 2 - t) else ws j) (k1 - 1 + j))) (k := k)
            (fun i j hi hj g => by
              (try dsimp only at g ⊢)
              rw [gp_G_neg, gp_G_neg] at g
              exact inj _ _ (by omega) (by omega) (by omega))
            (fun i j hij hj => by
              (try dsimp only)
              rw [gp_G_neg, gp_G_neg]
              have := srt (n - 1 - j) (n - 1 - i) (by omega) (by omega)
              omega)
            hU
            (fun j hj => by
              rw [zz, hpp] at hj
              (try dsimp only)
              rw [if_neg (by omega)])
            (by
              rw [zz, hpp]
              (try dsimp only)
              rw [if_pos rfl])
          rw [zz, hpp] at st
          exact st)
      exact this
  -- the first pass
  have pass1 : ∀ (d i m k : Nat) (wr : Nat → Int32) (ws : Nat → Nat), i + d = n → d < m → k ≤ i → (∀ j, j < k → wr j = nI (ws j) ∧ ws j < n) → ((i = 0 ∧ k = 0) ∨ (1 ≤ i ∧ (2 ≤ i → 2 ≤ k) ∧ gp_St gp_G (fun i => P (o i)) i (fun j => P (ws j)) k)) →
      wX_wrapAll_11 post m (nI i) (nI n) (nI k) xs ys ln wy od' wr := by
    intro d
    induction d with
    | zero =>
      intro i m k wr ws e dm ki hw hS
      obtain ⟨m, rfl⟩ : ∃ m', m = m' + 1 := ⟨m - 1, by omega⟩
      have ei : i = n := by omega
      subst ei
      rcases hS with ⟨z, _⟩ | ⟨_, k2, hS⟩
      · omega
      · have k2 := k2 (by omega)
        rw [wX_wrapAll_11]
        have e1 : nI k - 1 = nI (k - 1) := by rw [show (1 : Int32) = nI 1 from rfl, pk_sub (by omega)]
        have e2 : nI i - 2 = gp_I ((i : Int) - 2 - ((0 : Nat) : Int)) := by
          rw [show (2 : Int32) = nI 2 from rfl, pk_sub (by omega), gp_nI]; exact congrArg gp_I (by omega)
        refine br_t (nI_le (by omega) (by omega)) (nm_r e1 (nm_r e2 ⟨i + 1, ?_⟩))
        have := pass2 ws k k2 (by omega) hS (i - 1) 0 (i + 1) 1 wr ws (by omega) (by omega) (by omega) (by omega) (fun z => by omega) (fun j hj => rfl) (fun j hj => hw j (by omega)) (by
          refine ⟨by omega, by omega, ?_, ?_, Or.inl ⟨fun a ha => by rw [show a = 0 by omega], by omega⟩⟩
          · have := hS.2.2.2.1
            dsimp only at this ⊢
            rw [Nat.add_zero, this, Nat.sub_zero]
          · have := hS.2.2.2.1
            dsimp only at this ⊢
            rw [show k - 1 + (1 - 1) = k - 1 by omega, this, show 0 + 1 - 1 = 0 by omega, Nat.sub_zero])
        rw [show k - 1 + 1 = k by omega] at this
        exact this
    | succ d ih =>
      intro i m k wr ws e dm ki hw hS
      obtain ⟨m, rfl⟩ : ∃ m', m = m' + 1 := ⟨m - 1, by omega⟩
      have hi : i < n := by omega
      have oi := hO.1 i hi
      have ple := gp_pop_le (fun j => P (ws (0 + j))) (P (o i)) k
      rw [wX_wrapAll_11]
      refine br_f (nI_ge (by omega) (by omega)) ⟨gp_vi h hi, ?_⟩
      rw [gp_cl (by omega), oi.1, show nI k = nI (0 + k) by rw [Nat.zero_add]]
      refine gx_wrapIn (b := 0) (ws := ws) h (by omega) (by omega) oi.2 (fun j hj => hw j (by omega)) (nm_r (nI_1 i) ?_)
      have fe : (fun j => P (ws (0 + j))) = fun j => P (ws j) := by funext j; rw [Nat.zero_add]
      rw [fe] at ple ⊢
      rw [Nat.zero_add]
      generalize hpp : gp_pop (fun j => P (ws j)) (P (o i)) k = pp at *
      refine ih (i + 1) m (pp + 1) (upd wr pp (nI (o i))) (fun j => if j = pp then o i else ws j) (by omega) (by omega) (by omega) (fun j hj => ?_) (Or.inr ⟨by omega, fun i2 => ?_, ?_⟩)
      · unfold upd
        (try dsimp only)
        by_cases c : j = pp
        · rw [if_pos c, if_pos c]; exact ⟨rfl, oi.2⟩
        · rw [if_neg c, if_neg c]; exact hw j (by omega)
      · rcases hS with ⟨z, _⟩ | ⟨_, _, hS⟩
        · omega
        · have := ple.2 hS.1; omega
      · rcases hS with ⟨z1, z2⟩ | ⟨_, _, hS⟩
        · have p0 : pp = 0 := by omega
          subst p0
          subst z1
          refine ⟨by omega, by omega, by (try dsimp only); rw [if_pos rfl], by (try dsimp only); rw [if_pos rfl], Or.inl ⟨fun a ha => by rw [show a = 0 by omega], by omega⟩⟩
        · have st := gp_St_step (u := gp_G) (z := fun i => P (o i)) (m := i) (st := fun j => P (ws j)) (st' := fun j => P ((fun j => if j = pp then o i else ws j) j)) (k := k)
            (fun a b ha hb g => inj a b (by omega) (by omega) g) (fun a b hab hb => srt a b hab (by omega)) hS
            (fun j hj => by
              (try dsimp only at hj ⊢)
              rw [hpp] at hj
              rw [if_neg (by omega)])
            (by
              (try dsimp only)
              rw [hpp, if_pos rfl])
          (try dsimp only at st)
          rw [hpp] at st
          exact st
  exact ⟨n + 1, pass1 n 0 (n + 1) 0 wr (fun _ => 0) (by omega) (by omega) (by omega) (fun j hj => by omega) (Or.inl ⟨rfl, rfl⟩)⟩
theorem gx_hullAreaNow (h : gp_at n P xs ys) {M : Nat} {ws : Nat → Nat} (hM : 0 < M) (hM2 : M ≤ 20) (hw : ∀ j, j < M → wr j = nI (ws j) ∧ ws j < n) {post : Int32 → Prop}
    (hp : post (gp_I (gp_sm (fun i => gp_cr (P (ws i)) (P (ws (if i + 1 = M then 0 else i + 1)))) M))) : wpX_hullAreaNow post (nI n, nI M, xs, ys, ln, wy, od, wr) := by
  have h10 := h.1
  have loop : ∀ (d i m : Nat), i + d = M → d < m → wX_hullAreaNow_4 post (nI n) (nI M) xs ys ln wy od wr m (gp_I (gp_sm (fun i => gp_cr (P (ws i)) (P (ws (if i + 1 = M then 0 else i + 1)))) i)) (nI i) := by
    intro d
    induction d with
    | zero =>
      intro i m e dm
      obtain ⟨m, rfl⟩ : ∃ m', m = m' + 1 := ⟨m - 1, by omega⟩
      rw [wX_hullAreaNow_4, show i = M by omega]
      exact br_t (nI_le (by omega) (by omega)) hp
    | succ d ih =>
      intro i m e dm
      obtain ⟨m, rfl⟩ : ∃ m', m = m' + 1 := ⟨m - 1, by omega⟩
      have nx := ih (i + 1) m (by omega) (by omega)
      have wi := hw i (by omega)
      rw [gp_sm_s] at nx
      have w40 : ∀ z, z < M → z = (if i + 1 = M then 0 else i + 1) → wX_hullAreaNow_40 post (wX_hullAreaNow_4 post (nI n) (nI M) xs ys ln wy od wr m) (gp_I (gp_sm (fun i => gp_cr (P (ws i)) (P (ws (if i + 1 = M then 0 else i + 1)))) i)) (nI i) (nI (ws i)) (nI z) (nI n) (nI M) xs ys ln wy od wr := by
        intro z hz ez
        have wz := hw z hz
        unfold wX_hullAreaNow_40
        refine ⟨vp_in_nI (by omega) (by omega), ?_⟩
        rw [gp_cl (by omega), wz.1]
        refine nm_e ⟨gp_vi h wi.2, gp_vi h wz.2, gp_vi h wz.2, gp_vi h wi.2, nm_r ?_ (nm_r (nI_1 i) nx)⟩
        rw [gp_rx h wi.2, gp_rx h wz.2, gp_ry h wi.2, gp_ry h wz.2, ← gp_I_mul, ← gp_I_mul, ← gp_I_add, ← gp_I_sub, ← ez]
        refine congrArg gp_I ?_
        unfold gp_cr
        omega
      rw [wX_hullAreaNow_4]
      refine br_f (nI_ge (by omega) (by omega)) ⟨vp_in_nI (by omega) (by omega), ?_⟩
      rw [gp_cl (by omega), wi.1, nI_1]
      exact nm_e (gp_neq (by omega) (by omega) (fun c => w40 0 hM (by rw [if_pos c])) (fun c => w40 (i + 1) (by omega) (by rw [if_neg c])))
  unfold wpX_hullAreaNow
  exact ⟨M + 1, loop M 0 (M + 1) (by omega) (by omega)⟩
theorem gp_hs_r (h : gp_at n P xs ys) {ws : Nat → Nat} {M : Nat} (hM2 : M ≤ 20) (hw : ∀ j, j < M → ws j < n) : gp_rg (gp_sm (fun i => gp_cr (P (ws i)) (P (ws (if i + 1 = M then 0 else i + 1)))) M) := by
  have : ∀ i, i ≤ M → -(8192 * (i : Int)) ≤ gp_sm (fun i => gp_cr (P (ws i)) (P (ws (if i + 1 = M then 0 else i + 1)))) i ∧ gp_sm (fun i => gp_cr (P (ws i)) (P (ws (if i + 1 = M then 0 else i + 1)))) i ≤ 8192 * (i : Int) := by
    intro i
    induction i with
    | zero => intro _; rw [gp_sm_0]; omega
    | succ i ih =>
      intro hi
      have a := ih (by omega)
      have b1 := gp_rb h (hw i (by omega))
      have b2 := gp_rb h (hw (if i + 1 = M then 0 else i + 1) (by split <;> omega))
      rw [gp_sm_s]
      generalize P (ws (if i + 1 = M then 0 else i + 1)) = B at *
      unfold gp_cr at *
      have := gp_mulb (a := (P (ws i)).1) (b := B.2) (by omega) (by omega)
      have := gp_mulb (a := B.1) (b := (P (ws i)).2) (by omega) (by omega)
      omega
  have t := this M (by omega)
  unfold gp_rg
  omega
theorem gx_hullArea (h : gp_at n P xs ys) {post : Int32 → SX → Prop} (h0 : n < 3 → post (-1000) (nI n, fw, xs, ys, ln, wy, od, wr))
    (h1 : ∀ (od' wr' : Nat → Int32) (M : Nat) (S : Int), 3 ≤ n → M ≤ 20 → gp_rg S → gp_HF n P M S → post (if 0 < S then gp_I S else -1000) (nI n, nI M, xs, ys, ln, wy, od', wr')) : wpX_hullArea post (nI n, fw, xs, ys, ln, wy, od, wr) := by
  have h10 := h.1
  unfold wpX_hullArea
  refine gp_nle (a := 3) (by omega) (by omega) (fun c => ?_) (fun c => h0 c)
  refine gx_wrapAll h c fun od' wr' M ws m0 m20 hw hf => ?_
  have rg := gp_hs_r h m20 (fun j hj => (hw j hj).2)
  have hp := h1 od' wr' M _ c m20 rg hf
  refine gx_hullAreaNow h m0 m20 hw (gp_blt 0 _ rfl rfl (gp_rg_s (by omega)) rg (fun d => ?_) (fun d => ?_))
  · rw [if_pos d] at hp; exact hp
  · rw [if_neg d] at hp; exact hp
theorem gx_hull (h : gp_at n P xs ys) {post : Int32 → SX → Prop} (h0 : n < 3 → post (-1000) (nI n, fw, xs, ys, ln, wy, od, wr))
    (h1 : ∀ (od' wr' : Nat → Int32) (M : Nat) (S : Int), 3 ≤ n → M ≤ 20 → gp_rg S → gp_HF n P M S → post (if 0 < S then gp_I M else -1000) (nI n, nI M, xs, ys, ln, wy, od', wr')) : wpX_hull post (nI n, fw, xs, ys, ln, wy, od, wr) := by
  unfold wpX_hull
  refine gx_hullArea h (fun c => br_f (by decide) (h0 c)) (fun od' wr' M S c m20 rg hf => ?_)
  have hp := h1 od' wr' M S c m20 rg hf
  by_cases d : 0 < S
  · rw [if_pos d] at hp ⊢
    refine br_t ?_ ?_
    · rw [gp_I_0, gp_I_le (gp_rg_s (by omega)) rg]; omega
    · rw [gp_nI]; exact hp
  · rw [if_neg d] at hp ⊢
    exact br_f (by decide) hp
end
theorem gp_hsd_n {n : Nat} {P : Nat → Int × Int} (hn : n < 3) (val : Int × Int → Int × Int → Int) : gp_hsum n P val = 0 := by
  refine gp_sm_zero fun i hi => gp_sm_zero fun k hk => ?_
  unfold gp_hf
  rw [gp_dd_f, Int.zero_mul]
  rintro ⟨ne, _, _, _, q, hq, t⟩
  have : q = i ∨ q = k := by omega
  rcases this with e | e
  · rw [e] at t
    have : gp_turn (P i) (P k) (P i) = 0 := by unfold gp_turn; grind
    omega
  · rw [e] at t
    have : gp_turn (P i) (P k) (P k) = 0 := by unfold gp_turn; grind
    omega
end
section
/-! X: lines and tilings -/
theorem gp_b_vn (c : Prop) : vp_nar .boolean (gp_b c) = gp_b c := by
  by_cases h : c
  · rw [gp_b_t h]; rfl
  · rw [gp_b_f h]; rfl
def gp_sd (n p q : Nat) : Prop := (p + 1) % n = q ∨ (q + 1) % n = p
theorem gp_ix {p q : Nat} : (10 : Int32) * nI p + nI q = nI (10 * p + q) := by
  rw [show (10 : Int32) = nI 10 from rfl, pk_mul, nI_add]
/-- the number of pairs p < q with C, up to p, q -/
noncomputable def gp_pc (n : Nat) (C : Nat → Nat → Prop) (p : Nat) : Int := gp_sm (fun q => gp_dd (p < q ∧ C p q)) n
theorem gp_pc_0 {C : Nat → Nat → Prop} {p : Nat} : gp_sm (fun q => gp_dd (p < q ∧ C p q)) (p + 1) = 0 := gp_sm_zero fun q hq => gp_dd_f fun z => by omega
section
variable {n : Nat} {P : Nat → Int × Int} {fw : Int32} {xs ys ln wy od wr : Nat → Int32}
theorem gx_findLines (h : gp_at n P xs ys) {post : Int32 → SX → Prop}
    (hp : ∀ ln', (∀ a b, a < b → b < n → ln' (10 * a + b) = gp_b (gp_sd n a b ∨ gp_ICX n P (gp_sm (gp_sa n P) n).sign a b)) →
      post (gp_I (gp_sm (gp_pc n (gp_ICX n P (gp_sm (gp_sa n P) n).sign)) n)) (nI n, fw, xs, ys, ln', wy, od, wr)) : wpX_findLines post (nI n, fw, xs, ys, ln, wy, od, wr) := by
  have h10 := h.1
  unfold wpX_findLines
  refine gx_signedArea h (gx_signOf _ (gp_sa_g h) ?_)
  have hs := gp_sign_r (gp_sm (gp_sa n P) n)
  generalize (gp_sm (gp_sa n P) n).sign = s at *
  have inner : ∀ (J13 : Int32 → Int32 → (Nat → Int32) → (Nat → Int32) → (Nat → Int32) → (Nat → Int32) → (Nat → Int32) → (Nat → Int32) → Prop) (p : Nat) (v : Int), p < n →
      (∀ ln', (∀ a b, a < b → b < n → a < p + 1 → ln' (10 * a + b) = gp_b (gp_sd n a b ∨ gp_ICX n P s a b)) → J13 (gp_I (v + gp_pc n (gp_ICX n P s) p)) (nI (p + 1)) xs ys ln' wy od wr) →
      ∀ (d q m : Nat) (ln : Nat → Int32), q + d = n → p < q → d < m → (∀ a b, a < b → b < n → (a < p ∨ (a = p ∧ b < q)) → ln (10 * a + b) = gp_b (gp_sd n a b ∨ gp_ICX n P s a b)) →
      wX_findLines_26 post J13 (gp_I s) (nI p) (nI n) fw m (gp_I (v + gp_sm (fun q => gp_dd (p < q ∧ gp_ICX n P s p q)) q)) (nI q) xs ys ln wy od wr := by
    intro J13 p v hpn hJ d
    induction d with
    | zero =>
      intro q m ln e pq dm hl
      obtain ⟨m, rfl⟩ : ∃ m', m = m' + 1 := ⟨m - 1, by omega⟩
      rw [wX_findLines_26]
      have := hJ ln (fun a b ab bn ap => hl a b ab bn (by omega))
      unfold gp_pc at this
      rw [show q = n by omega]
      exact br_t (nI_le (by omega) (by omega)) (nm_r (nI_1 p) this)
    | succ d ih =>
      intro q m ln e pq dm hl
      obtain ⟨m, rfl⟩ : ∃ m', m = m' + 1 := ⟨m - 1, by omega⟩
      have hqn : q < n := by omega
      have ci : (nI (10 * p + q)).toNatClampNeg = 10 * p + q := gp_cl (by omega)
      have w111 : ∀ S G L : Prop, (S ↔ gp_sd n p q) → (G ↔ gp_ICX n P s p q) → (L ↔ S ∨ G) → wX_findLines_111 post J13 (wX_findLines_26 post J13 (gp_I s) (nI p) (nI n) fw m) (gp_I s) (gp_I (v + gp_sm (fun q => gp_dd (p < q ∧ gp_ICX n P s p q)) q)) (nI p) (nI q) (gp_b G) (gp_b L) (10 * nI p + nI q) (nI n) fw xs ys ln wy od wr := by
        intro S G L eS eG eL
        have nx := ih (q + 1) m (upd ln (10 * p + q) (gp_b L)) (by omega) (by omega) (by omega) (fun a b ab bn c => by
          unfold upd
          by_cases z : 10 * a + b = 10 * p + q
          · rw [if_pos z]
            have : a = p ∧ b = q := by omega
            rw [this.1, this.2]
            exact gp_b_c (by rw [eL, eS, eG])
          · rw [if_neg z]; exact hl a b ab bn (by omega))
        rw [gp_sm_s, ← Int.add_assoc] at nx
        unfold wX_findLines_111
        rw [gp_ix, ci, gp_b_vn]
        refine ⟨vp_in_nI (by omega) (by omega), nm_e (gp_bb (fun g => nm_r (nI_1 q) ?_) (fun g => nm_r (gp_I_add _ 1).symm (nm_r (nI_1 q) ?_)))⟩
        · rw [gp_dd_f (fun z => g (eG.mpr z.2)), Int.add_zero] at nx; exact nx
        · rw [gp_dd_t ⟨pq, eG.mp g⟩] at nx; exact nx
      have w106 : ∀ S G : Prop, (S ↔ gp_sd n p q) → (G ↔ gp_ICX n P s p q) → (S ∨ G) → wX_findLines_106 post J13 (wX_findLines_26 post J13 (gp_I s) (nI p) (nI n) fw m) (gp_I s) (gp_I (v + gp_sm (fun q => gp_dd (p < q ∧ gp_ICX n P s p q)) q)) (nI p) (nI q) (gp_b G) (10 * nI p + nI q) (nI n) fw xs ys ln wy od wr := by
        intro S G eS eG c
        have := w111 S G True eS eG ⟨fun _ => c, fun _ => trivial⟩
        rw [gp_b_t (c := True) trivial] at this
        unfold wX_findLines_106; exact this
      have w83 : ∀ S G : Prop, (S ↔ gp_sd n p q) → (G ↔ gp_ICX n P s p q) → wX_findLines_83 post J13 (wX_findLines_26 post J13 (gp_I s) (nI p) (nI n) fw m) (gp_I s) (gp_I (v + gp_sm (fun q => gp_dd (p < q ∧ gp_ICX n P s p q)) q)) (nI p) (nI q) (gp_b S) (gp_b G) (nI n) fw xs ys ln wy od wr := by
        intro S G eS eG
        unfold wX_findLines_83
        refine gp_bb (fun a => gp_bb (fun g => ?_) (fun g => w106 S G eS eG (Or.inr g))) (fun a => w106 S G eS eG (Or.inl a))
        have := w111 S G False eS eG ⟨fun z => z.elim, fun z => z.elim a g⟩
        rw [gp_b_f (c := False) (fun z => z)] at this; exact this
      have w82 : ∀ S : Prop, (S ↔ gp_sd n p q) → ¬ gp_ICX n P s p q → wX_findLines_82 post J13 (wX_findLines_26 post J13 (gp_I s) (nI p) (nI n) fw m) (gp_I s) (gp_I (v + gp_sm (fun q => gp_dd (p < q ∧ gp_ICX n P s p q)) q)) (nI p) (nI q) (gp_b S) (nI n) fw xs ys ln wy od wr := by
        intro S eS c
        have := w83 S False eS ⟨fun z => z.elim, c⟩
        rw [gp_b_f (c := False) (fun z => z)] at this
        unfold wX_findLines_82; exact this
      have w55 : gp_sd n p q → wX_findLines_55 post J13 (wX_findLines_26 post J13 (gp_I s) (nI p) (nI n) fw m) (gp_I s) (gp_I (v + gp_sm (fun q => gp_dd (p < q ∧ gp_ICX n P s p q)) q)) (nI p) (nI q) (nI n) fw xs ys ln wy od wr := by
        intro c
        unfold wX_findLines_55 wX_findLines_60
        have := w82 True ⟨fun _ => c, fun _ => trivial⟩ (fun z => c.elim z.2.1 z.2.2.1)
        rw [gp_b_t (c := True) trivial] at this
        exact br_f gp_one_ne this
      rw [wX_findLines_26]
      refine br_f (nI_ge (by omega) (by omega)) (gx_after h hpn ?_)
      have pa := gp_n1 hpn
      have qa := gp_n1 hqn
      refine gp_neq (by omega) (by omega) (fun c => w55 (Or.inl c)) (fun c1 => gx_after h hqn (gp_neq (by omega) (by omega) (fun c => w55 (Or.inr c)) (fun c2 => ?_)))
      unfold wX_findLines_60
      refine br_t rfl (gx_isCut h hpn hqn s hs (gp_bb (fun g => ?_) (fun g => ?_)))
      · have := w82 False ⟨fun z => z.elim, fun z => z.elim c1 c2⟩ g
        rw [gp_b_f (c := False) (fun z => z)] at this; exact this
      · have := w83 False True ⟨fun z => z.elim, fun z => z.elim c1 c2⟩ ⟨fun _ => g, fun _ => trivial⟩
        rw [gp_b_f (c := False) (fun z => z), gp_b_t (c := True) trivial] at this; exact this
  have outer : ∀ (d p m : Nat) (ln : Nat → Int32), p + d = n → d < m → (∀ a b, a < b → b < n → a < p → ln (10 * a + b) = gp_b (gp_sd n a b ∨ gp_ICX n P s a b)) →
      wX_findLines_13 post (gp_I s) (nI n) fw m (gp_I (gp_sm (gp_pc n (gp_ICX n P s)) p)) (nI p) xs ys ln wy od wr := by
    intro d
    induction d with
    | zero =>
      intro p m ln e dm hl
      obtain ⟨m, rfl⟩ : ∃ m', m = m' + 1 := ⟨m - 1, by omega⟩
      rw [wX_findLines_13]
      have := hp ln (fun a b ab bn => hl a b ab bn (by omega))
      rw [show p = n by omega]
      exact br_t (nI_le (by omega) (by omega)) this
    | succ d ih =>
      intro p m ln e dm hl
      obtain ⟨m, rfl⟩ : ∃ m', m = m' + 1 := ⟨m - 1, by omega⟩
      rw [wX_findLines_13]
      refine br_f (nI_ge (by omega) (by omega)) (nm_r (nI_1 p) ⟨n + 1, ?_⟩)
      have := inner (wX_findLines_13 post (gp_I s) (nI n) fw m) p (gp_sm (gp_pc n (gp_ICX n P s)) p) (by omega) (fun ln' hl' => by
        have := ih (p + 1) m ln' (by omega) (by omega) hl'
        rw [gp_sm_s] at this; exact this) (n - (p + 1)) (p + 1) (n + 1) ln (by omega) (by omega) (by omega) (fun a b ab bn c => hl a b ab bn (by omega))
      rw [gp_pc_0, Int.add_zero] at this
      exact this
  exact ⟨n + 1, outer n 0 (n + 1) ln (by omega) (by omega) (fun a b ab bn c => by omega)⟩
theorem gx_cuts (h : gp_at n P xs ys) {post : Int32 → SX → Prop} (h0 : ¬ gp_PX n P → post (-1000) (nI n, fw, xs, ys, ln, wy, od, wr))
    (h1 : gp_PX n P → ∀ ln', post (gp_I (gp_sm (gp_pc n (gp_ICX n P (gp_sm (gp_sa n P) n).sign)) n)) (nI n, fw, xs, ys, ln', wy, od, wr)) : wpX_cuts post (nI n, fw, xs, ys, ln, wy, od, wr) := by
  unfold wpX_cuts
  exact gx_isProper h (gp_bb h0 fun c => gx_findLines h fun ln' _ => h1 c ln')
noncomputable def gp_B (C : Nat → Nat → Prop) (p q : Nat) : Bool := @decide (C p q) (Classical.propDecidable _)
theorem gp_B_t {C : Nat → Nat → Prop} {p q : Nat} : gp_B C p q = true ↔ C p q := by
  unfold gp_B
  exact @decide_eq_true_iff _ (Classical.propDecidable _)
theorem gp_ln_sd {C : Nat → Nat → Prop} {n p q : Nat} (hpq : p < q) (hq : q < n) (ne : ¬ (p = 0 ∧ q + 1 = n)) : (gp_sd n p q ∨ C p q) ↔ gp_ln (gp_B C) p q = true := by
  unfold gp_ln
  rw [Bool.or_eq_true, decide_eq_true_iff, gp_B_t]
  unfold gp_sd
  rw [gp_af (show p < n by omega), gp_af hq]
  constructor
  · rintro ((c | c) | c)
    · left
      by_cases z : p + 1 = n
      · omega
      · rw [if_neg z] at c; omega
    · by_cases z : q + 1 = n
      · rw [if_pos z] at c; omega
      · rw [if_neg z] at c; omega
    · exact Or.inr c
  · rintro (c | c)
    · left; left
      rw [if_neg (by omega)]; omega
    · exact Or.inr c
theorem gx_tile (h10 : n ≤ 10) {C : Nat → Nat → Prop} {p q : Nat} (hpq : p < q) (hq : q < n) (hl : ∀ a b, a < b → b < n → ln (10 * a + b) = gp_b (gp_sd n a b ∨ C a b))
    (hy : ∀ a b, a < b → b < n → b < a + (q - p) → wy (10 * a + b) = nI (gp_W (gp_B C) a b)) {post : Int32 → Prop} (hp : post (nI (gp_W (gp_B C) p q))) : wpX_tile post (nI n, fw, xs, ys, ln, wy, od, wr) (nI p) (nI q) := by
  unfold wpX_tile
  rw [nI_1]
  refine gp_neq (by omega) (by omega) (fun c => ?_) (fun c => nm_e ⟨n + 1, ?_⟩)
  · rw [c, gp_W_1] at hp; exact hp
  · rw [gp_W_s _ _ _ (by omega) (by omega)] at hp
    have loop : ∀ (d t m : Nat), t + d = q - p - 1 → d < m → wX_tile_16 post (nI p) (nI q) (nI n) fw xs ys ln wy od wr m (nI (gp_nsm (fun t => if gp_ln (gp_B C) p (p + 1 + t) = true ∧ gp_ln (gp_B C) (p + 1 + t) q = true then gp_W (gp_B C) p (p + 1 + t) * gp_W (gp_B C) (p + 1 + t) q else 0) t)) (nI (p + 1 + t)) := by
      intro d
      induction d with
      | zero =>
        intro t m e dm
        obtain ⟨m, rfl⟩ : ∃ m', m = m' + 1 := ⟨m - 1, by omega⟩
        rw [wX_tile_16, show t = q - p - 1 by omega]
        exact br_t (nI_le (by omega) (by omega)) hp
      | succ d ih =>
        intro t m e dm
        obtain ⟨m, rfl⟩ : ∃ m', m = m' + 1 := ⟨m - 1, by omega⟩
        have nx := ih (t + 1) m (by omega) (by omega)
        have ns : ∀ f : Nat → Nat, gp_nsm f (t + 1) = gp_nsm f t + f t := fun f => rfl
        rw [ns] at nx
        have l1 := gp_ln_sd (C := C) (p := p) (q := p + 1 + t) (n := n) (by omega) (by omega) (by omega)
        have l2 := gp_ln_sd (C := C) (p := p + 1 + t) (q := q) (n := n) (by omega) (by omega) (by omega)
        have y1 := hy p (p + 1 + t) (by omega) (by omega) (by omega)
        have y2 := hy (p + 1 + t) q (by omega) (by omega) (by omega)
        have g1 := hl p (p + 1 + t) (by omega) (by omega)
        have g2 := hl (p + 1 + t) q (by omega) (by omega)
        rw [wX_tile_16]
        dsimp only
        rw [gp_ix, gp_ix, gp_cl (by omega), gp_cl (by omega), y1, y2, g1, g2, nI_1 (p + 1 + t)]
        have v1 : vp_in (nI (10 * p + (p + 1 + t))) 100 := vp_in_nI (by omega) (by omega)
        have v2 : vp_in (nI (10 * (p + 1 + t) + q)) 100 := vp_in_nI (by omega) (by omega)
        refine br_f (nI_ge (by omega) (by omega)) ⟨v1, gp_bb (fun a => nm_e ?_) (fun a => ⟨v2, gp_bb (fun b => nm_e ?_) (fun b => ⟨v1, v2, nm_r (e' := nI (gp_nsm (fun t => if gp_ln (gp_B C) p (p + 1 + t) = true ∧ gp_ln (gp_B C) (p + 1 + t) q = true then gp_W (gp_B C) p (p + 1 + t) * gp_W (gp_B C) (p + 1 + t) q else 0) t + gp_W (gp_B C) p (p + 1 + t) * gp_W (gp_B C) (p + 1 + t) q)) ?_ (nm_e ?_)⟩)⟩)⟩
        · rw [if_neg (fun z => a (l1.mpr z.1)), Nat.add_zero] at nx; exact nx
        · rw [if_neg (fun z => b (l2.mpr z.2)), Nat.add_zero] at nx; exact nx
        · rw [pk_mul, nI_add]
        · rw [if_pos ⟨l1.mp a, l2.mp b⟩] at nx; exact nx
    exact loop (q - p - 1) 0 (n + 1) (by omega) (by omega)
theorem gx_tilings (h : gp_at n P xs ys) {post : Int32 → SX → Prop} (h0 : ¬ gp_PX n P → post (-1000) (nI n, fw, xs, ys, ln, wy, od, wr))
    (h1 : gp_PX n P → ∀ ln' wy', post (nI (gp_W (gp_B (gp_ICX n P (gp_sm (gp_sa n P) n).sign)) 0 (n - 1))) (nI n, fw, xs, ys, ln', wy', od, wr)) : wpX_tilings post (nI n, fw, xs, ys, ln, wy, od, wr) := by
  have h10 := h.1
  unfold wpX_tilings
  refine gx_isProper h (gp_bb h0 fun c => gx_findLines h fun ln' hl => ⟨n + 1, ?_⟩)
  have n3 := c.1
  generalize hC : gp_ICX n P (gp_sm (gp_sa n P) n).sign = C at *
  have inner : ∀ (J20 : Int32 → (Nat → Int32) → (Nat → Int32) → (Nat → Int32) → (Nat → Int32) → (Nat → Int32) → (Nat → Int32) → Prop) (w : Nat), 1 ≤ w → w < n →
      (∀ wy', (∀ a b, a < b → b < n → b < a + (w + 1) → wy' (10 * a + b) = nI (gp_W (gp_B C) a b)) → J20 (nI (w + 1)) xs ys ln' wy' od wr) →
      ∀ (d p m : Nat) (wy : Nat → Int32), p + w + d = n → d < m → (∀ a b, a < b → b < n → (b < a + w ∨ (b = a + w ∧ a < p)) → wy (10 * a + b) = nI (gp_W (gp_B C) a b)) →
      wX_tilings_30 post J20 (nI w) (nI n) fw m (nI p) xs ys ln' wy od wr := by
    intro J20 w w1 wn hJ d
    induction d with
    | zero =>
      intro p m wy e dm hy
      obtain ⟨m, rfl⟩ : ∃ m', m = m' + 1 := ⟨m - 1, by omega⟩
      rw [wX_tilings_30]
      dsimp only
      rw [nI_add]
      exact br_t (nI_le (by omega) (by omega)) (nm_r (nI_1 w) (hJ wy fun a b ab bn bw => hy a b ab bn (by omega)))
    | succ d ih =>
      intro p m wy e dm hy
      obtain ⟨m, rfl⟩ : ∃ m', m = m' + 1 := ⟨m - 1, by omega⟩
      rw [wX_tilings_30]
      dsimp only
      rw [nI_add]
      refine br_f (nI_ge (by omega) (by omega)) (gx_tile h10 (by omega) (by omega) hl (fun a b ab bn c => hy a b ab bn (by omega)) ?_)
      rw [show 10 * nI p + nI p + nI w = nI (10 * p + (p + w)) from (by rw [gp_ix, nI_add]; exact congrArg nI (by omega)), gp_cl (by omega)]
      refine ⟨vp_in_nI (by omega) (by omega), nm_e (nm_r (nI_1 p) (ih (p + 1) m _ (by omega) (by omega) fun a b ab bn c2 => ?_))⟩
      unfold upd
      by_cases z : 10 * a + b = 10 * p + (p + w)
      · rw [if_pos z]
        have : a = p ∧ b = p + w := by omega
        rw [this.1, this.2]
      · rw [if_neg z]; exact hy a b ab bn (by omega)
  have outer : ∀ (d w m : Nat) (wy : Nat → Int32), w + d = n → 1 ≤ w → d < m → (∀ a b, a < b → b < n → b < a + w → wy (10 * a + b) = nI (gp_W (gp_B C) a b)) →
      wX_tilings_20 post (nI n) fw m (nI w) xs ys ln' wy od wr := by
    intro d
    induction d with
    | zero =>
      intro w m wy e w1 dm hy
      obtain ⟨m, rfl⟩ : ∃ m', m = m' + 1 := ⟨m - 1, by omega⟩
      rw [wX_tilings_20]
      dsimp only
      have e1 : nI n - 1 = nI (n - 1) := by rw [show (1 : Int32) = nI 1 from rfl, pk_sub (by omega)]
      have := hy 0 (n - 1) (by omega) (by omega) (by omega)
      rw [show 10 * 0 + (n - 1) = n - 1 by omega] at this
      rw [e1, gp_cl (by omega), this]
      exact br_t (nI_le (by omega) (by omega)) ⟨vp_in_nI (by omega) (by omega), h1 c ln' wy⟩
    | succ d ih =>
      intro w m wy e w1 dm hy
      obtain ⟨m, rfl⟩ : ∃ m', m = m' + 1 := ⟨m - 1, by omega⟩
      rw [wX_tilings_20]
      refine br_f (nI_ge (by omega) (by omega)) ⟨n + 1, ?_⟩
      exact inner _ w w1 (by omega) (fun wy' hy' => ih (w + 1) m wy' (by omega) (by omega) (by omega) hy') (n - w) 0 (n + 1) wy (by omega) (by omega) (fun a b ab bn c2 => hy a b ab bn (by omega))
  exact outer (n - 1) 1 (n + 1) wy (by omega) (by omega) (by omega) (fun a b ab bn c2 => by omega)
end
end
section
/-! Y: the list of cuts, the search for sets of cuts -/
def gp_tri3 : Nat → Nat
  | 0 => 0
  | m + 1 => gp_tri3 m + m
theorem gp_tri3_45 : ∀ n, n ≤ 10 → gp_tri3 n ≤ 45 := by decide
def gp_lf (l : List (Nat × Nat)) (t : Nat) : Nat × Nat := l.getD t (0, 0)
/-- the pairs as the reference stores them -/
def gp_Ls (l : List (Nat × Nat)) (pr : Nat → Int32) : Prop := ∀ t, t < l.length → pr t = nI (10 * (gp_lf l t).1 + (gp_lf l t).2)
theorem gp_lf_app {l : List (Nat × Nat)} {c : Nat × Nat} {t : Nat} : gp_lf (l ++ [c]) t = if t < l.length then gp_lf l t else if t = l.length then c else (0, 0) := by
  unfold gp_lf
  rw [List.getD_eq_getElem?_getD, List.getD_eq_getElem?_getD]
  by_cases h : t < l.length
  · rw [if_pos h, List.getElem?_append_left h]
  · rw [if_neg h, List.getElem?_append_right (by omega)]
    by_cases e : t = l.length
    · rw [if_pos e, e, Nat.sub_self]; rfl
    · rw [if_neg e, List.getElem?_eq_none (by simp only [List.length_singleton]; omega)]; rfl
theorem gp_lf_mem {l : List (Nat × Nat)} {t : Nat} (h : t < l.length) : gp_lf l t ∈ l := by
  unfold gp_lf
  rw [List.getD_eq_getElem?_getD, List.getElem?_eq_getElem h]
  exact List.getElem_mem h
theorem gp_lf_drop {l : List (Nat × Nat)} {t : Nat} (h : t < l.length) : l.drop t = gp_lf l t :: l.drop (t + 1) := by
  rw [List.drop_eq_getElem_cons h]
  unfold gp_lf
  rw [List.getD_eq_getElem?_getD, List.getElem?_eq_getElem h]; rfl
/-- all cuts, in order -/
def gp_CL (n : Nat) (C : Nat → Nat → Prop) (l : List (Nat × Nat)) : Prop := l.Nodup ∧ (∀ a b, (a, b) ∈ l ↔ a < b ∧ b < n ∧ C a b) ∧ l.length ≤ 45
section
variable {n : Nat} {P : Nat → Int × Int} {pc : Int32} {xs ys kx ky pr cn : Nat → Int32}
theorem gy_listCuts (h : gp_at n P xs ys) {post : SY → Prop}
    (hp : ∀ pr' l, gp_CL n (gp_ICY n P) l → gp_Ls l pr' → (l.length : Int) = gp_sm (gp_pc n (gp_ICY n P)) n → post (nI n, nI l.length, xs, ys, kx, ky, pr', cn)) : wpY_listCuts post (nI n, pc, xs, ys, kx, ky, pr, cn) := by
  have h10 := h.1
  unfold wpY_listCuts
  have inner : ∀ (J7 : Int32 → Int32 → (Nat → Int32) → (Nat → Int32) → (Nat → Int32) → (Nat → Int32) → (Nat → Int32) → (Nat → Int32) → Prop) (p : Nat) (v : Int), p < n →
      (∀ pr' (l : List (Nat × Nat)), l.Nodup → (∀ a b, (a, b) ∈ l ↔ a < b ∧ b < n ∧ a < p + 1 ∧ gp_ICY n P a b) → l.length + gp_tri3 (n - p - 1) ≤ 45 → gp_Ls l pr' → (l.length : Int) = v + gp_pc n (gp_ICY n P) p → J7 (nI (p + 1)) (nI l.length) xs ys kx ky pr' cn) →
      ∀ (d q m : Nat) (pr : Nat → Int32) (l : List (Nat × Nat)), q + d = n → p < q → d < m → l.Nodup → (∀ a b, (a, b) ∈ l ↔ a < b ∧ b < n ∧ (a < p ∨ (a = p ∧ b < q)) ∧ gp_ICY n P a b) → l.length + d + gp_tri3 (n - p - 1) ≤ 45 → gp_Ls l pr → (l.length : Int) = v + gp_sm (fun q => gp_dd (p < q ∧ gp_ICY n P p q)) q →
      wY_listCuts_19 post J7 (nI p) (nI n) m (nI q) (nI l.length) xs ys kx ky pr cn := by
    intro J7 p v hpn hJ d
    induction d with
    | zero =>
      intro q m pr l e pq dm nd hm hc hl hs
      obtain ⟨m, rfl⟩ : ∃ m', m = m' + 1 := ⟨m - 1, by omega⟩
      rw [wY_listCuts_19]
      refine br_t (nI_le (by omega) (by omega)) (nm_r (nI_1 p) (hJ pr l nd (fun a b => ?_) (by omega) hl (by rw [show q = n by omega] at hs; exact hs)))
      rw [hm]
      constructor
      · rintro ⟨x, y, z, w⟩; exact ⟨x, y, by omega, w⟩
      · rintro ⟨x, y, z, w⟩; exact ⟨x, y, by omega, w⟩
    | succ d ih =>
      intro q m pr l e pq dm nd hm hc hl hs
      obtain ⟨m, rfl⟩ : ∃ m', m = m' + 1 := ⟨m - 1, by omega⟩
      have hqn : q < n := by omega
      rw [wY_listCuts_19]
      refine br_f (nI_ge (by omega) (by omega)) (gy_isCut h hpn hqn (gp_bb (fun c => nm_r (nI_1 q) ?_) (fun c => ⟨vp_in_nI (by omega) (by omega), nm_e (nm_r (nI_1 l.length) (nm_r (nI_1 q) ?_))⟩)))
      · refine ih (q + 1) m pr l (by omega) (by omega) (by omega) nd (fun a b => ?_) (by omega) hl (by rw [gp_sm_s, gp_dd_f (fun z => c z.2), Int.add_zero]; exact hs)
        rw [hm]
        constructor
        · rintro ⟨x, y, z, w⟩; exact ⟨x, y, by omega, w⟩
        · rintro ⟨x, y, z, w⟩
          refine ⟨x, y, ?_, w⟩
          by_cases q1 : a = p ∧ b = q
          · rw [q1.1, q1.2] at w; exact absurd w c
          · omega
      · have := ih (q + 1) m (upd pr l.length (nI (10 * p + q))) (l ++ [(p, q)]) (by omega) (by omega) (by omega) (by
          unfold List.Nodup
          rw [List.pairwise_append]
          refine ⟨nd, List.pairwise_singleton _ _, fun a ha b hb ab => ?_⟩
          rw [List.mem_singleton] at hb
          rw [ab, hb] at ha
          have := (hm p q).mp ha
          omega) (fun a b => by
          rw [List.mem_append, List.mem_singleton, hm, Prod.mk.injEq]
          constructor
          · rintro (⟨x, y, z, w⟩ | ⟨x, y⟩)
            · exact ⟨x, y, by omega, w⟩
            · rw [x, y]; exact ⟨pq, hqn, by omega, c⟩
          · rintro ⟨x, y, z, w⟩
            by_cases q1 : a = p ∧ b = q
            · exact Or.inr q1
            · exact Or.inl ⟨x, y, by omega, w⟩) (by rw [List.length_append, List.length_singleton]; omega) (fun t ht => by
          rw [List.length_append, List.length_singleton] at ht
          rw [gp_lf_app]
          unfold upd
          by_cases e1 : t < l.length
          · rw [if_pos e1, if_neg (by omega)]; exact hl t e1
          · rw [if_neg e1, if_pos (by omega), if_pos (by omega)]) (by
          rw [List.length_append, List.length_singleton, gp_sm_s, gp_dd_t ⟨pq, c⟩]
          omega)
        rw [List.length_append, List.length_singleton] at this
        rw [gp_cl (by omega), gp_ix]
        exact this
  have outer : ∀ (d p m : Nat) (pr : Nat → Int32) (l : List (Nat × Nat)), p + d = n → d < m → l.Nodup → (∀ a b, (a, b) ∈ l ↔ a < b ∧ b < n ∧ a < p ∧ gp_ICY n P a b) → l.length + gp_tri3 (n - p) ≤ 45 → gp_Ls l pr → (l.length : Int) = gp_sm (gp_pc n (gp_ICY n P)) p →
      wY_listCuts_7 post (nI n) m (nI p) (nI l.length) xs ys kx ky pr cn := by
    intro d
    induction d with
    | zero =>
      intro p m pr l e dm nd hm hc hl hs
      obtain ⟨m, rfl⟩ : ∃ m', m = m' + 1 := ⟨m - 1, by omega⟩
      rw [wY_listCuts_7]
      refine br_t (nI_le (by omega) (by omega)) (hp pr l ⟨nd, fun a b => ?_, by omega⟩ hl (by rw [show p = n by omega] at hs; exact hs))
      rw [hm]
      constructor
      · rintro ⟨x, y, z, w⟩; exact ⟨x, y, w⟩
      · rintro ⟨x, y, w⟩; exact ⟨x, y, by omega, w⟩
    | succ d ih =>
      intro p m pr l e dm nd hm hc hl hs
      obtain ⟨m, rfl⟩ : ∃ m', m = m' + 1 := ⟨m - 1, by omega⟩
      rw [wY_listCuts_7]
      have tt : gp_tri3 (n - p) = gp_tri3 (n - p - 1) + (n - p - 1) := by rw [show n - p = n - p - 1 + 1 by omega]; rfl
      refine br_f (nI_ge (by omega) (by omega)) (nm_r (nI_1 p) ⟨n + 1, ?_⟩)
      refine inner _ p (gp_sm (gp_pc n (gp_ICY n P)) p) (by omega) (fun pr' l' nd' hm' hc' hl' hs' => ih (p + 1) m pr' l' (by omega) (by omega) nd' hm' (by rw [show n - (p + 1) = n - p - 1 by omega]; exact hc') hl' (by rw [gp_sm_s]; exact hs')) (n - (p + 1)) (p + 1) (n + 1) pr l (by omega) (by omega) (by omega) nd (fun a b => ?_) (by omega) hl (by rw [gp_pc_0, Int.add_zero]; exact hs)
      rw [hm]
      constructor
      · rintro ⟨x, y, z, w⟩; exact ⟨x, y, by omega, w⟩
      · rintro ⟨x, y, z, w⟩; exact ⟨x, y, by omega, w⟩
  exact ⟨n + 1, outer n 0 (n + 1) pr [] (by omega) (by omega) List.Pairwise.nil (fun a b => ⟨fun z => absurd z List.not_mem_nil, fun z => by omega⟩) (by have := gp_tri3_45 n h10; simp only [List.length_nil, Nat.sub_zero]; omega) (fun t ht => by simp only [List.length_nil] at ht; omega) rfl⟩
theorem gy_cuts (h : gp_at n P xs ys) {post : Int32 → SY → Prop} (h0 : ¬ gp_PY n P → post (-1000) (nI n, pc, xs, ys, kx, ky, pr, cn))
    (h1 : gp_PY n P → ∀ pr' pc', post (gp_I (gp_sm (gp_pc n (gp_ICY n P)) n)) (nI n, pc', xs, ys, kx, ky, pr', cn)) : wpY_cuts post (nI n, pc, xs, ys, kx, ky, pr, cn) := by
  unfold wpY_cuts
  refine gy_isProper h (gp_bb h0 fun c => gy_listCuts h fun pr' l hC hl hs => ?_)
  have := h1 c pr' (nI l.length)
  rw [← hs, ← gp_nI] at this
  exact this
theorem gy_cross {l : List (Nat × Nat)} (hl : gp_Ls l pr) (h45 : l.length ≤ 45) (hb : ∀ t, t < l.length → (gp_lf l t).1 < 10 ∧ (gp_lf l t).2 < 10) {s t : Nat} (hs : s < l.length) (ht : t < l.length) {post : Int32 → Prop}
    (hp : post (gp_b (¬ gp_nc (gp_lf l s) (gp_lf l t)))) : wpY_cross post (nI n, pc, xs, ys, kx, ky, pr, cn) (nI s) (nI t) := by
  have bs := hb s hs
  have bt := hb t ht
  have ps := hl s hs
  have pt := hl t ht
  unfold gp_nc at hp
  generalize gp_lf l s = a at *
  generalize gp_lf l t = b at *
  have d10 : ∀ x y : Nat, y < 10 → x < 10 → nI (10 * x + y) / 10 = nI x ∧ nI (10 * x + y) - nI (10 * x + y) / 10 * 10 = nI y := by
    intro x y hy hx
    refine ⟨?_, ?_⟩
    · rw [show (10 : Int32) = nI 10 from rfl, pk_div (by omega) (by omega) (by omega)]; exact congrArg nI (by omega)
    · rw [show (10 : Int32) = nI 10 from rfl, pk_rem (by omega) (by omega) (by omega)]; exact congrArg nI (by omega)
  have da := d10 a.1 a.2 bs.2 bs.1
  have db := d10 b.1 b.2 bt.2 bt.1
  have w63 : ¬ (a.1 < b.1 ∧ b.1 < a.2 ∧ a.2 < b.2) → wY_cross_63 post (nI a.1) (nI a.2) (nI b.1) (nI b.2) (nI n) pc xs ys kx ky pr cn := by
    intro c
    unfold wY_cross_63
    refine gp_nle (by omega) (by omega) (fun c1 => gp_pf hp (by omega)) (fun c1 => gp_nle (by omega) (by omega) (fun c2 => gp_pf hp (by omega)) (fun c2 => gp_nle (by omega) (by omega) (fun c3 => gp_pf hp (by omega)) (fun c3 => gp_pt hp (by omega))))
  have vs : vp_in (nI s) 45 := vp_in_nI (by omega) (by omega)
  have vt : vp_in (nI t) 45 := vp_in_nI (by omega) (by omega)
  have t10 : ¬ (10 : Int32) = 0 := by decide
  unfold wpY_cross
  dsimp only
  rw [gp_cl (by omega), gp_cl (by omega), ps, pt, da.2, db.2, da.1, db.1]
  refine ⟨vs, t10, nm_e ⟨vs, t10, nm_e ⟨vt, t10, nm_e ⟨vt, t10, nm_e ?_⟩⟩⟩⟩
  refine gp_nle (by omega) (by omega) (fun c1 => w63 (by omega)) (fun c1 => gp_nle (by omega) (by omega) (fun c2 => w63 (by omega)) (fun c2 => gp_nlt (by omega) (by omega) (fun c3 => gp_pt hp (by omega)) (fun c3 => w63 (by omega))))
/-- the chosen cuts -/
def gp_Fl (l : List (Nat × Nat)) (ch : Nat → Nat) : Nat → List (Nat × Nat)
  | 0 => []
  | i + 1 => gp_lf l (ch i) :: gp_Fl l ch i
theorem gp_Fl_ok {l : List (Nat × Nat)} {ch : Nat → Nat} {c : Nat × Nat} : ∀ m, gp_ok (gp_Fl l ch m) c ↔ ∀ i, i < m → gp_nc (gp_lf l (ch i)) c := by
  intro m
  induction m with
  | zero => exact ⟨fun _ i hi => by omega, fun _ f hf => absurd hf List.not_mem_nil⟩
  | succ m ih =>
    constructor
    · intro h i hi
      by_cases e : i = m
      · subst e; exact h _ (List.mem_cons_self ..)
      · exact ih.mp (fun f hf => h f (List.mem_cons_of_mem _ hf)) i (by omega)
    · intro h f hf
      rcases List.mem_cons.mp hf with e | e
      · rw [e]; exact h m (by omega)
      · exact ih.mpr (fun i hi => h i (by omega)) f e
theorem gp_Fl_c {l : List (Nat × Nat)} {ch ch' : Nat → Nat} : ∀ m, (∀ i, i < m → ch i = ch' i) → gp_Fl l ch m = gp_Fl l ch' m := by
  intro m
  induction m with
  | zero => intro _; rfl
  | succ m ih => intro h; rw [gp_Fl, gp_Fl, ih (fun i hi => h i (by omega)), h m (by omega)]
theorem gy_fits {l : List (Nat × Nat)} (hl : gp_Ls l pr) (h45 : l.length ≤ 45) (hb : ∀ t, t < l.length → (gp_lf l t).1 < 10 ∧ (gp_lf l t).2 < 10) {t many : Nat} {ch : Nat → Nat} (ht : t < l.length) (hm : many ≤ 8) (hch : ∀ i, i < many → cn i = nI (ch i) ∧ ch i < l.length) {post : Int32 → Prop}
    (hp : post (gp_b (gp_ok (gp_Fl l ch many) (gp_lf l t)))) : wpY_fits post (nI n, pc, xs, ys, kx, ky, pr, cn) (nI t) (nI many) := by
  rw [gp_b_c (gp_Fl_ok many)] at hp
  have loop : ∀ (d i m : Nat), i + d = many → d < m → (∀ j, j < i → gp_nc (gp_lf l (ch j)) (gp_lf l t)) → wY_fits_2 post (nI t) (nI many) (nI n) pc xs ys kx ky pr cn m (nI i) := by
    intro d
    induction d with
    | zero =>
      intro i m e dm c
      obtain ⟨m, rfl⟩ : ∃ m', m = m' + 1 := ⟨m - 1, by omega⟩
      rw [wY_fits_2]
      exact br_t (nI_le (by omega) (by omega)) (gp_pt hp fun j hj => c j (by omega))
    | succ d ih =>
      intro i m e dm c
      obtain ⟨m, rfl⟩ : ∃ m', m = m' + 1 := ⟨m - 1, by omega⟩
      have ci := hch i (by omega)
      rw [wY_fits_2]
      refine br_f (nI_ge (by omega) (by omega)) ⟨vp_in_nI (by omega) (by omega), ?_⟩
      rw [gp_cl (by omega), ci.1]
      refine gy_cross hl h45 hb ci.2 ht (gp_bb (fun q => nm_r (nI_1 i) (ih (i + 1) m (by omega) (by omega) fun j hj => ?_)) (fun q => gp_pf hp fun z => q (z i (by omega))))
      by_cases e1 : j = i
      · subst e1; exact Classical.not_not.mp q
      · exact c j (by omega)
  unfold wpY_fits
  exact ⟨many + 1, loop many 0 (many + 1) (by omega) (by omega) (fun j hj => by omega)⟩
def gp_stp : Nat → Nat
  | 0 => 0
  | d + 1 => 2 * gp_stp d + 2
theorem gy_search {l : List (Nat × Nat)} (hl : gp_Ls l pr) (h45 : l.length ≤ 45) (hb : ∀ t, t < l.length → (gp_lf l t).1 < 10 ∧ (gp_lf l t).2 < 10) {w : Nat} (hw : w ≤ 8) {post : Int32 → SY → Prop} :
    ∀ (d next : Nat), next + d = l.length → ∀ (many : Nat), many < w → ∀ (cn : Nat → Int32) (ch : Nat → Nat), (∀ i, i < many → cn i = nI (ch i) ∧ ch i < l.length) → ∀ (sets m0 : Nat),
      (∀ m, m0 ≤ m → ∀ cn', (∀ i, i < many → cn' i = cn i) → wY_tilings_37 post (nI w) (nI n) (nI l.length) m (nI many) (nI (sets + (gp_sub (w - many) (l.drop next) (gp_Fl l ch many)).length)) (nI l.length) xs ys kx ky pr cn') →
      ∀ m, m0 + gp_stp d ≤ m → wY_tilings_37 post (nI w) (nI n) (nI l.length) m (nI many) (nI sets) (nI next) xs ys kx ky pr cn := by
  intro d
  induction d with
  | zero =>
    intro next e many mw cn ch hch sets m0 K m hm
    have K := K m (by unfold gp_stp at hm; omega) cn (fun i _ => rfl)
    rw [show next = l.length by omega, List.drop_length] at K
    obtain ⟨k, hk⟩ : ∃ k, w - many = k + 1 := ⟨w - many - 1, by omega⟩
    rw [hk, gp_sub, List.length_nil, Nat.add_zero] at K
    rw [show next = l.length by omega]
    exact K
  | succ d ih =>
    intro next e many mw cn ch hch sets m0 K m hm
    have nl : next < l.length := by omega
    have st : gp_stp (d + 1) = 2 * gp_stp d + 2 := rfl
    obtain ⟨m, rfl⟩ : ∃ m', m = m' + 1 := ⟨m - 1, by omega⟩
    obtain ⟨k, hk⟩ : ∃ k, w - many = k + 1 := ⟨w - many - 1, by omega⟩
    rw [hk, gp_lf_drop nl, gp_sub_len] at K
    rw [wY_tilings_37]
    refine br_f (nI_pos (by omega)) (br_f (nI_nle (by omega) (by omega)) (gp_neq (by omega) (by omega) (fun c => by omega) (fun _ => ?_)))
    refine gy_fits hl h45 hb nl (by omega) hch (gp_bb (fun c => nm_r (nI_1 next) ?_) (fun c => ⟨vp_in_nI (by omega) (by omega), nm_e ?_⟩))
    · rw [if_neg c, Nat.zero_add] at K
      exact ih (next + 1) (by omega) many mw cn ch hch sets m0 (by rw [hk]; exact K) m (by omega)
    · rw [if_pos c] at K
      have hch1 : ∀ i, i < many → upd cn (nI many).toNatClampNeg (nI next) i = nI (ch i) ∧ ch i < l.length := fun i hi => by
        rw [gp_cl (by omega)]; unfold upd; rw [if_neg (by omega)]; exact hch i hi
      have e1 : nI many + 1 = nI (many + 1) := nI_1 many
      rw [e1]
      refine gp_neq (by omega) (by omega) (fun c2 => ?_) (fun c2 => ?_)
      · unfold wY_tilings_110
        rw [e1]
        have k0 : k = 0 := by omega
        subst k0
        refine br_t (by rw [c2]) (nm_r (nI_1 next) ?_)
        rw [nI_1 sets]
        refine ih (next + 1) (by omega) many mw _ ch hch1 (sets + 1) m0 (fun m hm cn' hc => ?_) m (by omega)
        have := K m hm cn' (fun i hi => by rw [hc i hi, gp_cl (by omega)]; unfold upd; rw [if_neg (by omega)])
        rw [gp_sub, List.length_singleton] at this
        rw [hk, show sets + 1 + (gp_sub (0 + 1) (l.drop (next + 1)) (gp_Fl l ch many)).length = sets + (1 + (gp_sub (0 + 1) (l.drop (next + 1)) (gp_Fl l ch many)).length) by omega]
        exact this
      · unfold wY_tilings_110
        rw [e1]
        refine br_f (fun z => c2 ((nI_eq (by omega) (by omega)).mp z)) (nm_e (nm_r (nI_1 next) ?_))
        have hch2 : ∀ i, i < many + 1 → upd cn (nI many).toNatClampNeg (nI next) i = nI ((fun i => if i = many then next else ch i) i) ∧ (fun i => if i = many then next else ch i) i < l.length := fun i hi => by
          rw [gp_cl (by omega)]
          unfold upd
          (try dsimp only)
          by_cases q : i = many
          · rw [if_pos q, if_pos q]; exact ⟨rfl, nl⟩
          · rw [if_neg q, if_neg q]; exact hch i (by omega)
        have F1 : gp_Fl l (fun i => if i = many then next else ch i) (many + 1) = gp_lf l next :: gp_Fl l ch many := by
          rw [gp_Fl]
          (try dsimp only)
          rw [if_pos rfl, gp_Fl_c many (fun i hi => if_neg (by omega))]
        refine ih (next + 1) (by omega) (many + 1) (by omega) _ _ hch2 sets (m0 + gp_stp d + 1) (fun m1 hm1 cn' hc => ?_) m (by omega)
        rw [F1, show w - (many + 1) = k by omega]
        obtain ⟨m1, rfl⟩ : ∃ m', m1 = m' + 1 := ⟨m1 - 1, by omega⟩
        rw [wY_tilings_37]
        refine br_f (nI_pos (by omega)) (br_f (nI_nle (by omega) (by omega)) (br_t rfl (nm_r (pk_m1 many) (br_f (nI_pos (by omega)) ⟨vp_in_nI (by omega) (by omega), ?_⟩))))
        have cm : cn' many = nI next := by
          rw [hc many (by omega), gp_cl (by omega)]; unfold upd; rw [if_pos rfl]
        rw [gp_cl (by omega), cm]
        refine nm_r (nI_1 next) ?_
        have ag : ∀ i, i < many → cn' i = cn i := fun i hi => by
          rw [hc i (by omega), gp_cl (by omega)]; unfold upd; rw [if_neg (by omega)]
        refine ih (next + 1) (by omega) many mw cn' ch (fun i hi => by rw [ag i hi]; exact hch i hi) _ m0 (fun m2 hm2 cn2 hc2 => ?_) m1 (by omega)
        have := K m2 hm2 cn2 (fun i hi => by rw [hc2 i hi, ag i hi])
        rw [hk, show sets + (gp_sub k (l.drop (next + 1)) (gp_lf l next :: gp_Fl l ch many)).length + (gp_sub (k + 1) (l.drop (next + 1)) (gp_Fl l ch many)).length = sets + ((gp_sub k (l.drop (next + 1)) (gp_lf l next :: gp_Fl l ch many)).length + (gp_sub (k + 1) (l.drop (next + 1)) (gp_Fl l ch many)).length) by omega]
        exact this
theorem gy_tilings (h : gp_at n P xs ys) {post : Int32 → SY → Prop} (h0 : ¬ gp_PY n P → post (-1000) (nI n, pc, xs, ys, kx, ky, pr, cn))
    (h1 : gp_PY n P → ∀ l pc' pr' cn', gp_CL n (gp_ICY n P) l → post (nI (gp_sub (n - 3) l []).length) (nI n, pc', xs, ys, kx, ky, pr', cn')) : wpY_tilings post (nI n, pc, xs, ys, kx, ky, pr, cn) := by
  have h10 := h.1
  unfold wpY_tilings
  refine gy_isProper h (gp_bb h0 fun c => gy_listCuts h fun pr' l hC hl hs => ?_)
  have n3 := c.1
  have e1 : nI n - 3 = nI (n - 3) := by rw [show (3 : Int32) = nI 3 from rfl, pk_sub (by omega)]
  have hb : ∀ t, t < l.length → (gp_lf l t).1 < 10 ∧ (gp_lf l t).2 < 10 := fun t ht => by
    have := (hC.2.1 (gp_lf l t).1 (gp_lf l t).2).mp (gp_lf_mem ht)
    omega
  refine nm_r e1 (gp_neq (b := 0) (by omega) (by omega) (fun z => ⟨1, ?_⟩) (fun z => ⟨2 + gp_stp l.length, ?_⟩))
  · rw [wY_tilings_37]
    have := h1 c l (nI l.length) pr' cn hC
    rw [z, gp_sub, List.length_singleton] at this
    rw [z]
    exact br_f (by decide) (br_t (by decide) this)
  · refine gy_search hl hC.2.2 hb (w := n - 3) (by omega) l.length 0 (by omega) 0 (by omega) cn (fun _ => 0) (fun i hi => by omega) 0 2 (fun m hm cn' hc => ?_) _ (Nat.le_refl _)
    obtain ⟨m, rfl⟩ : ∃ m', m = m' + 2 := ⟨m - 2, by omega⟩
    rw [wY_tilings_37]
    refine br_f (nI_pos (by omega)) (br_f (nI_nle (by omega) (by omega)) (br_t rfl (nm_e (br_t (by decide) ?_))))
    rw [wY_tilings_37]
    refine br_t (by decide) ?_
    have := h1 c l (nI l.length) pr' cn' hC
    rw [Nat.zero_add]
    exact this
end
end
section
/-! X: corners come, go and move -/
def gp_gr (v : Int × Int) : Prop := 0 ≤ v.1 ∧ v.1 < 16 ∧ 0 ≤ v.2 ∧ v.2 < 16
theorem gp_at_c {n : Nat} {P Q : Nat → Int × Int} {xs ys : Nat → Int32} (e : ∀ j, j < n → P j = Q j) (h : gp_at n P xs ys) : gp_at n Q xs ys :=
  ⟨h.1, fun i hi => by rw [← e i hi]; exact h.2 i hi⟩
def gp_pn (k : Nat) : Int × Int := gp_nn (k % 16) (k / 16)
theorem gp_pn_g {k : Nat} (hk : k < 256) : gp_gr (gp_pn k) := by
  unfold gp_gr gp_pn gp_nn; dsimp only; omega
theorem gp_pn_x {k : Nat} (hk : k < 256) : nI k &&& 15 = gp_I (gp_pn k).1 ∧ nI k >>> ((4 : Int32) &&& 31) = gp_I (gp_pn k).2 := by
  refine ⟨?_, ?_⟩
  · rw [pk_andN (by omega) 4 (by decide), gp_nI]; rfl
  · rw [pk_shrN (by omega) _ 4 (by decide), gp_nI]; rfl
theorem gp_pn_y {k : Nat} (hk : k < 256) : nI k - nI k / 16 * 16 = gp_I (gp_pn k).1 ∧ nI k / 16 = gp_I (gp_pn k).2 := by
  refine ⟨?_, ?_⟩
  · rw [show (16 : Int32) = nI 16 from rfl, pk_rem (by omega) (by omega) (by omega), gp_nI]; rfl
  · rw [show (16 : Int32) = nI 16 from rfl, pk_div (by omega) (by omega) (by omega), gp_nI]; rfl
def gp_addc (P : Nat → Int × Int) (n k : Nat) : Nat → Int × Int := fun j => if j = n then gp_pn k else P j
def gp_insc (P : Nat → Int × Int) (i k : Nat) : Nat → Int × Int := fun j => if j < i then P j else if j = i then gp_pn k else P (j - 1)
def gp_remc (P : Nat → Int × Int) (i : Nat) : Nat → Int × Int := fun j => if j < i then P j else P (j + 1)
theorem gp_at_add {n : Nat} {P : Nat → Int × Int} {xs ys : Nat → Int32} (h : gp_at n P xs ys) (hn : n < 10) {k : Nat} (hk : k < 256) : gp_at (n + 1) (gp_addc P n k) (upd xs n (gp_I (gp_pn k).1)) (upd ys n (gp_I (gp_pn k).2)) := by
  refine ⟨by omega, fun i hi => ?_⟩
  unfold upd gp_addc
  by_cases c : i = n
  · rw [if_pos c, if_pos c, if_pos c]; exact ⟨rfl, rfl, gp_pn_g hk⟩
  · rw [if_neg c, if_neg c, if_neg c]; exact h.2 i (by omega)
/-- in the midst of an insertion: the gap at k -/
def gp_gap (n : Nat) (P : Nat → Int × Int) (k : Nat) (xs ys : Nat → Int32) : Prop := ∀ j, j < n + 1 → (j < k → xs j = gp_I (P j).1 ∧ ys j = gp_I (P j).2) ∧ (k < j → xs j = gp_I (P (j - 1)).1 ∧ ys j = gp_I (P (j - 1)).2)
theorem gp_gap_s {n : Nat} {P : Nat → Int × Int} {k : Nat} {xs ys : Nat → Int32} (hk : k < n) (h : gp_gap n P (k + 1) xs ys) : gp_gap n P k (upd xs (k + 1) (xs k)) (upd ys (k + 1) (ys k)) := by
  intro j hj
  unfold upd
  by_cases c : j = k + 1
  · rw [if_pos c, if_pos c]
    refine ⟨fun z => by omega, fun z => ?_⟩
    rw [c, Nat.add_sub_cancel]
    exact (h k (by omega)).1 (by omega)
  · rw [if_neg c, if_neg c]
    exact ⟨fun z => (h j hj).1 (by omega), fun z => (h j hj).2 (by omega)⟩
theorem gp_gap_e {n : Nat} {P : Nat → Int × Int} {i : Nat} {xs0 ys0 xs ys : Nat → Int32} (h0 : gp_at n P xs0 ys0) (hn : n < 10) (hi : i ≤ n) (h : gp_gap n P i xs ys) {k : Nat} (hk : k < 256) :
    gp_at (n + 1) (gp_insc P i k) (upd xs i (gp_I (gp_pn k).1)) (upd ys i (gp_I (gp_pn k).2)) := by
  refine ⟨by omega, fun j hj => ?_⟩
  unfold upd gp_insc
  have g := h j hj
  by_cases c : j = i
  · rw [if_pos c, if_pos c, if_neg (by omega), if_pos c]; exact ⟨rfl, rfl, gp_pn_g hk⟩
  · rw [if_neg c, if_neg c, if_neg c]
    by_cases d : j < i
    · rw [if_pos d]; exact ⟨(g.1 d).1, (g.1 d).2, gp_rb h0 (by omega)⟩
    · rw [if_neg d]; exact ⟨(g.2 (by omega)).1, (g.2 (by omega)).2, gp_rb h0 (by omega)⟩
/-- in the midst of a removal -/
def gp_cls (n : Nat) (P : Nat → Int × Int) (i k : Nat) (xs ys : Nat → Int32) : Prop := ∀ j, j < n → (j < k → xs j = gp_I (gp_remc P i j).1 ∧ ys j = gp_I (gp_remc P i j).2) ∧ (k ≤ j → xs j = gp_I (P j).1 ∧ ys j = gp_I (P j).2)
theorem gp_cls_s {n : Nat} {P : Nat → Int × Int} {i k : Nat} {xs ys : Nat → Int32} (hik : i ≤ k) (hk : k + 1 < n) (h : gp_cls n P i k xs ys) : gp_cls n P i (k + 1) (upd xs k (xs (k + 1))) (upd ys k (ys (k + 1))) := by
  intro j hj
  unfold upd
  by_cases c : j = k
  · rw [if_pos c, if_pos c]
    refine ⟨fun _ => ?_, fun z => by omega⟩
    rw [c]
    unfold gp_remc
    rw [if_neg (by omega)]
    exact (h (k + 1) hk).2 (by omega)
  · rw [if_neg c, if_neg c]
    exact ⟨fun z => (h j hj).1 (by omega), fun z => (h j hj).2 (by omega)⟩
theorem gp_cls_e {n : Nat} {P : Nat → Int × Int} {i : Nat} {xs0 ys0 xs ys : Nat → Int32} (h0 : gp_at n P xs0 ys0) (hi : i < n) (h : gp_cls n P i (n - 1) xs ys) : gp_at (n - 1) (gp_remc P i) xs ys := by
  refine ⟨by have := h0.1; omega, fun j hj => ?_⟩
  have g := (h j (by omega)).1 hj
  refine ⟨g.1, g.2, ?_⟩
  unfold gp_remc
  split
  · exact gp_rb h0 (by omega)
  · exact gp_rb h0 (by omega)
theorem gp_cls_0 {n : Nat} {P : Nat → Int × Int} {i : Nat} {xs ys : Nat → Int32} (h : gp_at n P xs ys) (hi : i < n) : gp_cls n P i i xs ys := by
  intro j hj
  have a := h.2 j hj
  refine ⟨fun z => ?_, fun z => ⟨a.1, a.2.1⟩⟩
  unfold gp_remc
  rw [if_pos z]
  exact ⟨a.1, a.2.1⟩
def gp_mvok (n : Nat) (P : Nat → Int × Int) (a b : Int) : Prop := ∀ i, i < n → gp_gr ((P i).1 + a, (P i).2 + b)
def gp_mvc (P : Nat → Int × Int) (a b : Int) (i : Nat) : Nat → Int × Int := fun j => if j < i then ((P j).1 + a, (P j).2 + b) else P j
theorem gp_mv_s {n : Nat} {P : Nat → Int × Int} {a b : Int} {i : Nat} {xs ys : Nat → Int32} (hi : i < n) (ok : gp_gr ((P i).1 + a, (P i).2 + b)) (h : gp_at n (gp_mvc P a b i) xs ys) :
    gp_at n (gp_mvc P a b (i + 1)) (upd xs i (xs i + gp_I a)) (upd ys i (ys i + gp_I b)) := by
  refine ⟨h.1, fun j hj => ?_⟩
  have g := h.2 j hj
  have gi := h.2 i hi
  unfold gp_mvc at *
  unfold upd
  by_cases c : j = i
  · subst c
    rw [if_pos rfl, if_pos rfl, if_pos (by omega)]
    rw [if_neg (by omega)] at gi
    rw [gi.1, gi.2.1, ← gp_I_add, ← gp_I_add]
    exact ⟨rfl, rfl, ok⟩
  · rw [if_neg c, if_neg c]
    by_cases d : j < i
    · rw [if_pos (by omega)]; rw [if_pos d] at g; exact g
    · rw [if_neg (by omega)]; rw [if_neg d] at g; exact g
theorem gp_tI (x : Int32) : x = gp_I x.toInt ∧ gp_rg x.toInt := by
  refine ⟨(Int32.ofInt_toInt x).symm, ?_⟩
  have a := x.le_toInt
  have b := x.toInt_lt
  unfold gp_rg
  omega
section
variable {n : Nat} {P : Nat → Int × Int} {fw : Int32} {xs ys ln wy od wr : Nat → Int32}
theorem gx_corner (h : gp_at n P xs ys) (p0 : Int32) {post : Int32 → SX → Prop} (hb : (∀ k, k < 256 → p0 ≠ nI k) → post (-1) (nI n, fw, xs, ys, ln, wy, od, wr)) (hf : (∃ k, k < 256 ∧ p0 = nI k) → n = 10 → post (-2) (nI n, fw, xs, ys, ln, wy, od, wr))
    (ho : ∀ k, k < 256 → p0 = nI k → n < 10 → ∀ xs' ys', gp_at (n + 1) (gp_addc P n k) xs' ys' → post (nI n) (nI (n + 1), fw, xs', ys', ln, wy, od, wr)) : wpX_corner post (nI n, fw, xs, ys, ln, wy, od, wr) p0 := by
  have h10 := h.1
  unfold wpX_corner
  refine gx_badPoint p0 (fun c => br_f gp_one_ne (hb c)) (fun k hk e => br_t rfl (gp_neq (b := 10) (by omega) (by omega) (fun c => hf ⟨k, hk, e⟩ c) (fun c => ?_)))
  subst e
  have v : vp_in (nI n) 10 := vp_in_nI (by omega) (by omega)
  rw [(gp_pn_x hk).1, (gp_pn_x hk).2, gp_cl (by omega)]
  refine ⟨v, nm_e ⟨v, nm_e (nm_r (nI_1 n) ?_)⟩⟩
  rw [nI_pred]
  exact ho k hk rfl (by omega) _ _ (gp_at_add h (by omega) hk)
theorem gx_insert (h : gp_at n P xs ys) (p0 p1 : Int32) {post : Int32 → SX → Prop} (hb : ((∀ k, k < 256 → p1 ≠ nI k) ∨ ∀ i, i ≤ n → p0 ≠ nI i) → post (-1) (nI n, fw, xs, ys, ln, wy, od, wr)) (hf : (∃ k, k < 256 ∧ p1 = nI k) → (∃ i, i ≤ n ∧ p0 = nI i) → n = 10 → post (-2) (nI n, fw, xs, ys, ln, wy, od, wr))
    (ho : ∀ k, k < 256 → p1 = nI k → ∀ i, i ≤ n → p0 = nI i → n < 10 → ∀ xs' ys', gp_at (n + 1) (gp_insc P i k) xs' ys' → post (nI (n + 1)) (nI (n + 1), fw, xs', ys', ln, wy, od, wr)) : wpX_insert post (nI n, fw, xs, ys, ln, wy, od, wr) p0 p1 := by
  have h10 := h.1
  unfold wpX_insert
  refine gx_badPoint p1 (fun c => br_f gp_one_ne (hb (Or.inl c))) (fun k hk e => br_t rfl (br_c (fun c => hb (Or.inr fun i hi z => ?_)) (fun c => ?_)))
  · rw [z] at c; exact nI_pos (by omega) c
  · obtain ⟨i, hi, rfl⟩ := nI_of c
    by_cases q : i ≤ n
    · refine br_t (nI_le q (by omega)) (gp_neq (b := 10) (by omega) (by omega) (fun c => hf ⟨k, hk, e⟩ ⟨i, q, rfl⟩ c) (fun c => ⟨n + 1, ?_⟩))
      subst e
      have loop : ∀ (d j m : Nat) (xs' ys' : Nat → Int32), j = i + d → j ≤ n → d < m → gp_gap n P j xs' ys' → wX_insert_39 post (nI i) (nI k) (nI n) fw m (nI j) xs' ys' ln wy od wr := by
        intro d
        induction d with
        | zero =>
          intro j m xs' ys' e jn dm g
          obtain ⟨m, rfl⟩ : ∃ m', m = m' + 1 := ⟨m - 1, by omega⟩
          have v : vp_in (nI i) 10 := vp_in_nI (by omega) (by omega)
          rw [wX_insert_39]
          dsimp only
          rw [(gp_pn_x hk).1, (gp_pn_x hk).2, gp_cl (i := i) (by omega)]
          have ji : j = i := by omega
          subst ji
          exact br_t (nI_le (by omega) (by omega)) ⟨v, nm_e ⟨v, nm_e (nm_r (nI_1 n) (ho k hk rfl j q rfl (by omega) _ _ (gp_gap_e h (by omega) q g hk)))⟩⟩
        | succ d ih =>
          intro j m xs' ys' e jn dm g
          obtain ⟨m, rfl⟩ : ∃ m', m = m' + 1 := ⟨m - 1, by omega⟩
          obtain ⟨j, rfl⟩ : ∃ j', j = j' + 1 := ⟨j - 1, by omega⟩
          rw [wX_insert_39]
          dsimp only
          rw [nI_pred, gp_cl (i := j) (by omega), gp_cl (i := j + 1) (by omega)]
          have v : vp_in (nI j) 10 := vp_in_nI (by omega) (by omega)
          have v1 : vp_in (nI (j + 1)) 10 := vp_in_nI (by omega) (by omega)
          exact br_f (nI_ge (by omega) (by omega)) ⟨v, v1, nm_e ⟨v, v1, nm_e (nm_r (pk_m1 j) (ih j m _ _ (by omega) (by omega) (by omega) (gp_gap_s (by omega) g)))⟩⟩
      exact loop (n - i) n (n + 1) xs ys (by omega) (by omega) (by omega) (fun j hj => ⟨fun z => ⟨(h.2 j z).1, (h.2 j z).2.1⟩, fun z => by omega⟩)
    · refine br_f (nI_ge (by omega) (by omega)) (hb (Or.inr fun j hj z => ?_))
      rw [nI_eq hi (by omega)] at z
      omega
theorem gx_remove (h : gp_at n P xs ys) (p0 : Int32) {post : Int32 → SX → Prop} (hb : (∀ i, i < n → p0 ≠ nI i) → post (-1) (nI n, fw, xs, ys, ln, wy, od, wr))
    (ho : ∀ i, i < n → p0 = nI i → ∀ xs' ys', gp_at (n - 1) (gp_remc P i) xs' ys' → post (gp_I (16 * (P i).2 + (P i).1)) (nI (n - 1), fw, xs', ys', ln, wy, od, wr)) : wpX_remove post (nI n, fw, xs, ys, ln, wy, od, wr) p0 := by
  have h10 := h.1
  unfold wpX_remove
  refine gx_noCorner h p0 (fun c => br_f gp_one_ne (hb c)) (fun i hi e => br_t rfl ?_)
  subst e
  have e1 : nI n - 1 = nI (n - 1) := by rw [show (1 : Int32) = nI 1 from rfl, pk_sub (by omega)]
  refine ⟨gp_vi h hi, gp_vi h hi, nm_r (e' := gp_I (16 * (P i).2 + (P i).1)) ?_ (nm_r e1 ⟨n + 1, ?_⟩)⟩
  · rw [gp_rx h hi, gp_ry h hi, show (16 : Int32) = gp_I 16 from rfl, ← gp_I_mul, ← gp_I_add]
  · have loop : ∀ (d k m : Nat) (xs' ys' : Nat → Int32), k + d = n - 1 → i ≤ k → d < m → gp_cls n P i k xs' ys' → wX_remove_39 post (gp_I (16 * (P i).2 + (P i).1)) (nI (n - 1)) fw m (nI k) xs' ys' ln wy od wr := by
      intro d
      induction d with
      | zero =>
        intro k m xs' ys' e ik dm g
        obtain ⟨m, rfl⟩ : ∃ m', m = m' + 1 := ⟨m - 1, by omega⟩
        rw [wX_remove_39]
        rw [show k = n - 1 by omega] at g
        exact br_t (nI_le (by omega) (by omega)) (ho i hi rfl _ _ (gp_cls_e h hi g))
      | succ d ih =>
        intro k m xs' ys' e ik dm g
        obtain ⟨m, rfl⟩ : ∃ m', m = m' + 1 := ⟨m - 1, by omega⟩
        have v : vp_in (nI k) 10 := vp_in_nI (by omega) (by omega)
        have v1 : vp_in (nI (k + 1)) 10 := vp_in_nI (by omega) (by omega)
        rw [wX_remove_39]
        dsimp only
        rw [nI_1 k, gp_cl (i := k) (by omega), gp_cl (i := k + 1) (by omega)]
        exact br_f (nI_ge (by omega) (by omega)) ⟨v1, v, nm_e ⟨v1, v, nm_e (nm_e (ih (k + 1) m _ _ (by omega) (by omega) (by omega) (gp_cls_s ik (by omega) g)))⟩⟩
    exact loop (n - 1 - i) i (n + 1) xs ys (by omega) (by omega) (by omega) (gp_cls_0 h hi)
theorem gx_move (h : gp_at n P xs ys) (a b : Int) (ra : gp_rg a) (rb : gp_rg b) {post : Int32 → SX → Prop} (hb : ¬ gp_mvok n P a b → post (-1) (nI n, fw, xs, ys, ln, wy, od, wr))
    (ho : gp_mvok n P a b → ∀ xs' ys', gp_at n (gp_mvc P a b n) xs' ys' → post (nI n) (nI n, fw, xs', ys', ln, wy, od, wr)) : wpX_move post (nI n, fw, xs, ys, ln, wy, od, wr) (gp_I a) (gp_I b) := by
  have h10 := h.1
  have r16 : gp_rg (-16) := gp_rg_s (by omega)
  have r16' : gp_rg 16 := gp_rg_s (by omega)
  have r0 : gp_rg 0 := gp_rg_s (by omega)
  have w106 : gp_mvok n P a b → ∃ m, wX_move_106 post (gp_I a) (gp_I b) (nI n) fw m 0 xs ys ln wy od wr := by
    intro ok
    have loop : ∀ (d i m : Nat) (xs' ys' : Nat → Int32), i + d = n → d < m → gp_at n (gp_mvc P a b i) xs' ys' → wX_move_106 post (gp_I a) (gp_I b) (nI n) fw m (nI i) xs' ys' ln wy od wr := by
      intro d
      induction d with
      | zero =>
        intro i m xs' ys' e dm g
        obtain ⟨m, rfl⟩ : ∃ m', m = m' + 1 := ⟨m - 1, by omega⟩
        rw [wX_move_106]
        rw [show i = n by omega] at g
        exact br_t (nI_le (by omega) (by omega)) (ho ok _ _ g)
      | succ d ih =>
        intro i m xs' ys' e dm g
        obtain ⟨m, rfl⟩ : ∃ m', m = m' + 1 := ⟨m - 1, by omega⟩
        have v : vp_in (nI i) 10 := vp_in_nI (by omega) (by omega)
        rw [wX_move_106]
        dsimp only
        rw [gp_cl (i := i) (by omega)]
        exact br_f (nI_ge (by omega) (by omega)) ⟨v, v, nm_e ⟨v, v, nm_e (nm_r (nI_1 i) (ih (i + 1) m _ _ (by omega) (by omega) (gp_mv_s (by omega) (ok i (by omega)) g)))⟩⟩
    exact ⟨n + 1, loop n 0 (n + 1) xs ys (by omega) (by omega) (gp_at_c (fun j _ => by unfold gp_mvc; rw [if_neg (by omega)]) h)⟩
  have w90 : ∀ W : Prop, (n = 0 ∨ (W ↔ ¬ gp_mvok n P a b)) → wX_move_90 post (gp_I a) (gp_I b) (gp_b W) (nI n) fw xs ys ln wy od wr := by
    intro W eW
    have ok0 : n = 0 → gp_mvok n P a b := fun z i hi => by omega
    unfold wX_move_90
    refine gp_bb (fun c => w106 ?_) (fun c => gp_nle (b := 0) (by omega) (by omega) (fun z => w106 (ok0 (by omega))) (fun z => hb ?_))
    · rcases eW with z | z
      · exact ok0 z
      · exact Classical.not_not.mp fun q => c (z.mpr q)
    · rcases eW with z2 | z2
      · omega
      · exact z2.mp c
  have bad : ¬ (-16 ≤ a ∧ a ≤ 16 ∧ -16 ≤ b ∧ b ≤ 16) → ∃ m, wX_move_33 post (gp_I a) (gp_I b) (nI n) fw xs ys ln wy od wr m 1 0 := by
    intro c
    refine ⟨1, ?_⟩
    have t := w90 True (by
      by_cases z : n = 0
      · exact Or.inl z
      · refine Or.inr ⟨fun _ ok => ?_, fun _ => trivial⟩
        have := ok 0 (by omega)
        have := gp_rb h (i := 0) (by omega)
        unfold gp_gr at *
        dsimp only at *
        omega)
    rw [gp_b_t trivial] at t
    rw [wX_move_33]
    exact br_c (fun _ => t) (fun _ => br_f gp_one_ne t)
  have off : ∀ (v : Int), gp_rg v → ∀ {q : Int32 → Prop}, q (gp_b (¬ (0 ≤ v ∧ v < 16))) → wpX_off q (nI n, fw, xs, ys, ln, wy, od, wr) (gp_I v) := by
    intro v rv q hq
    unfold wpX_off
    refine gp_blt v 0 rfl rfl rv r0 (fun c => gp_pt hq (by omega)) (fun c => gp_blt v 16 rfl rfl rv r16' (fun d => gp_pf hq (by omega)) (fun d => gp_pt hq (by omega)))
  have good : (-16 ≤ a ∧ a ≤ 16 ∧ -16 ≤ b ∧ b ≤ 16) → ∃ m, wX_move_33 post (gp_I a) (gp_I b) (nI n) fw xs ys ln wy od wr m 0 0 := by
    intro c
    have loop : ∀ (d i m : Nat), i + d = n → d < m → (∀ j, j < i → gp_gr ((P j).1 + a, (P j).2 + b)) → wX_move_33 post (gp_I a) (gp_I b) (nI n) fw xs ys ln wy od wr m 0 (nI i) := by
      intro d
      induction d with
      | zero =>
        intro i m e dm ok
        obtain ⟨m, rfl⟩ : ∃ m', m = m' + 1 := ⟨m - 1, by omega⟩
        have t := w90 False (Or.inr ⟨fun z => z.elim, fun z => z fun j hj => ok j (by omega)⟩)
        rw [gp_b_f (fun z => z)] at t
        rw [wX_move_33]
        exact br_t (nI_le (by omega) (by omega)) t
      | succ d ih =>
        intro i m e dm ok
        obtain ⟨m, rfl⟩ : ∃ m', m = m' + 1 := ⟨m - 1, by omega⟩
        have hi : i < n := by omega
        have bi := gp_rb h hi
        have stop : ¬ gp_gr ((P i).1 + a, (P i).2 + b) → ∀ m, 1 ≤ m → wX_move_33 post (gp_I a) (gp_I b) (nI n) fw xs ys ln wy od wr m 1 (nI (i + 1)) := by
          intro ng m hm
          obtain ⟨m, rfl⟩ : ∃ m', m = m' + 1 := ⟨m - 1, by omega⟩
          have t := w90 True (Or.inr ⟨fun _ z => ng (z i hi), fun _ => trivial⟩)
          rw [gp_b_t trivial] at t
          rw [wX_move_33]
          exact br_c (fun _ => t) (fun _ => br_f gp_one_ne t)
        rw [wX_move_33]
        refine br_f (nI_ge (by omega) (by omega)) (br_t rfl ⟨gp_vi h hi, ?_⟩)
        rw [gp_rx h hi, gp_ry h hi, ← gp_I_add, ← gp_I_add]
        refine off _ (gp_rg_s (by omega)) (gp_bb (fun q1 => ⟨gp_vi h hi, off _ (gp_rg_s (by omega)) (gp_bb (fun q2 => nm_r (nI_1 i) ?_) (fun q2 => nm_r (nI_1 i) (stop ?_ m (by omega))))⟩) (fun q1 => nm_r (nI_1 i) (stop ?_ m (by omega))))
        · refine ih (i + 1) m (by omega) (by omega) fun j hj => ?_
          by_cases z : j = i
          · subst z
            unfold gp_gr
            dsimp only
            omega
          · exact ok j (by omega)
        · unfold gp_gr; dsimp only; omega
        · unfold gp_gr; dsimp only; omega
    exact ⟨n + 1, loop n 0 (n + 1) (by omega) (by omega) (fun j hj => by omega)⟩
  unfold wpX_move
  refine gp_blt a (-16) rfl rfl ra r16 (fun c => bad (by omega)) (fun c1 => ?_)
  refine gp_blt 16 a rfl rfl r16' ra (fun c => bad (by omega)) (fun c2 => ?_)
  refine gp_blt b (-16) rfl rfl rb r16 (fun c => bad (by omega)) (fun c3 => ?_)
  exact gp_ble b 16 rfl rfl rb r16' (fun c => good (by omega)) (fun c4 => bad (by omega))
theorem gx_exchange (h : gp_at n P xs ys) {i j : Nat} (hi : i < n) (hj : j < n) {post : SX → Prop} (hp : ∀ xs' ys', gp_at n (fun k => if k = j then P i else if k = i then P j else P k) xs' ys' → post (nI n, fw, xs', ys', ln, wy, od, wr)) : wpX_exchange post (nI n, fw, xs, ys, ln, wy, od, wr) (nI i) (nI j) := by
  have h10 := h.1
  have ai := h.2 i hi
  have aj := h.2 j hj
  have vi := gp_vi h hi
  have vj := gp_vi h hj
  unfold wpX_exchange
  dsimp only
  rw [gp_cl (i := i) (by omega), gp_cl (i := j) (by omega)]
  refine ⟨vi, nm_e ⟨vi, nm_e ⟨vj, vi, nm_e ⟨vj, vi, nm_e ⟨vj, nm_e ⟨vj, nm_e (hp _ _ ⟨h10, fun k hk => ?_⟩)⟩⟩⟩⟩⟩⟩
  unfold upd
  dsimp only
  by_cases c : k = j
  · rw [if_pos c, if_pos c, if_pos c]; exact ai
  · rw [if_neg c, if_neg c, if_neg c]
    by_cases d : k = i
    · rw [if_pos d, if_pos d, if_pos d]; exact aj
    · rw [if_neg d, if_neg d, if_neg d]; exact h.2 k hk
def gp_rvc (n : Nat) (P : Nat → Int × Int) (i : Nat) : Nat → Int × Int := fun j => if (1 ≤ j ∧ j < i) ∨ n < j + i then P (n - j) else P j
theorem gx_reverse (h : gp_at n P xs ys) {post : Int32 → SX → Prop} (hp : ∀ xs' ys', gp_at n (fun j => if j = 0 then P 0 else P (n - j)) xs' ys' → post (nI n) (nI n, fw, xs', ys', ln, wy, od, wr)) : wpX_reverse post (nI n, fw, xs, ys, ln, wy, od, wr) := by
  have h10 := h.1
  have loop : ∀ (d i m : Nat) (xs' ys' : Nat → Int32), n ≤ i + d → 1 ≤ i → d < m → gp_at n (gp_rvc n P i) xs' ys' → (i = 1 ∨ 2 * i ≤ n + 2) → wX_reverse_2 post m (nI i) (nI n) fw xs' ys' ln wy od wr := by
    intro d
    induction d with
    | zero =>
      intro i m xs' ys' e i1 dm g gi
      obtain ⟨m, rfl⟩ : ∃ m', m = m' + 1 := ⟨m - 1, by omega⟩
      rw [wX_reverse_2]
      have lt : (nI n - nI i) ≤ nI i := by
        rw [gp_nI, gp_nI, ← gp_I_sub, gp_I_le (gp_rg_s (by omega)) (gp_rg_s (by omega))]; omega
      refine br_t lt (hp _ _ (gp_at_c (fun j hj => ?_) g))
      unfold gp_rvc
      by_cases z : j = 0
      · rw [if_pos z, if_neg (by omega), z]
      · rw [if_neg z]
        by_cases w : (1 ≤ j ∧ j < i) ∨ n < j + i
        · rw [if_pos w]
        · omega
    | succ d ih =>
      intro i m xs' ys' e i1 dm g gi
      obtain ⟨m, rfl⟩ : ∃ m', m = m' + 1 := ⟨m - 1, by omega⟩
      rw [wX_reverse_2]
      by_cases c : n ≤ 2 * i
      · have lt : (nI n - nI i) ≤ nI i := by
          rw [gp_nI, gp_nI, ← gp_I_sub, gp_I_le (gp_rg_s (by omega)) (gp_rg_s (by omega))]; omega
        refine br_t lt (hp _ _ (gp_at_c (fun j hj => ?_) g))
        unfold gp_rvc
        by_cases z : j = 0
        · rw [if_pos z, if_neg (by omega), z]
        · rw [if_neg z]
          by_cases w : (1 ≤ j ∧ j < i) ∨ n < j + i
          · rw [if_pos w]
          · rw [if_neg w]
            exact congrArg P (by omega)
      · have nlt : ¬ (nI n - nI i) ≤ nI i := by
          rw [gp_nI, gp_nI, ← gp_I_sub, gp_I_le (gp_rg_s (by omega)) (gp_rg_s (by omega))]; omega
        have e1 : nI n - nI i = nI (n - i) := pk_sub (by omega)
        refine br_f nlt ?_
        rw [e1]
        refine gx_exchange g (by omega) (by omega) fun xs'' ys'' g' => nm_r (nI_1 i) (ih (i + 1) m xs'' ys'' (by omega) (by omega) (by omega) (gp_at_c (fun j hj => ?_) g') (Or.inr (by omega)))
        unfold gp_rvc
        (try dsimp only)
        by_cases z : j = n - i
        · rw [if_pos z, if_neg (by omega), if_pos (by omega), z]
          exact congrArg P (by omega)
        · rw [if_neg z]
          by_cases w : j = i
          · rw [if_pos w, if_neg (by omega), if_pos (by omega), w]
          · rw [if_neg w]
            by_cases y : (1 ≤ j ∧ j < i) ∨ n < j + i
            · rw [if_pos y, if_pos (by omega)]
            · rw [if_neg y, if_neg (by omega)]
  unfold wpX_reverse
  refine ⟨n + 1, loop n 1 (n + 1) xs ys (by omega) (by omega) (by omega) (gp_at_c (fun j hj => ?_) h) (Or.inl rfl)⟩
  unfold gp_rvc
  rw [if_neg (by omega)]
theorem gx_rotate (h : gp_at n P xs ys) {post : SX → Prop} (hp : ∀ xs' ys', gp_at n (fun j => P ((j + 1) % n)) xs' ys' → post (nI n, fw, xs', ys', ln, wy, od, wr)) : wpX_rotate post (nI n, fw, xs, ys, ln, wy, od, wr) := by
  have h10 := h.1
  have loop : ∀ (d k m : Nat) (xs' ys' : Nat → Int32), n ≤ k + 1 + d → (k < n ∨ (n = 0 ∧ k = 0)) → d < m → gp_at n (fun j => if j < k then P (j + 1) else if j = k then P 0 else P j) xs' ys' → wX_rotate_2 post m (nI k) (nI n) fw xs' ys' ln wy od wr := by
    intro d
    induction d with
    | zero =>
      intro k m xs' ys' e kn dm g
      obtain ⟨m, rfl⟩ : ∃ m', m = m' + 1 := ⟨m - 1, by omega⟩
      rw [wX_rotate_2]
      (try dsimp only)
      rw [nI_1]
      refine br_t (nI_le (by omega) (by omega)) (hp _ _ (gp_at_c (fun j hj => ?_) g))
      (try dsimp only)
      by_cases c : j < k
      · rw [if_pos c, Nat.mod_eq_of_lt (by omega)]
      · rw [if_neg c, if_pos (by omega), show j + 1 = n by omega, Nat.mod_self]
    | succ d ih =>
      intro k m xs' ys' e kn dm g
      obtain ⟨m, rfl⟩ : ∃ m', m = m' + 1 := ⟨m - 1, by omega⟩
      rw [wX_rotate_2]
      (try dsimp only)
      rw [nI_1]
      by_cases z : n ≤ k + 1
      · refine br_t (nI_le z (by omega)) (hp _ _ (gp_at_c (fun j hj => ?_) g))
        (try dsimp only)
        by_cases c : j < k
        · rw [if_pos c, Nat.mod_eq_of_lt (by omega)]
        · rw [if_neg c, if_pos (by omega), show j + 1 = n by omega, Nat.mod_self]
      · refine br_f (nI_ge (by omega) (by omega)) (gx_exchange g (by omega) (by omega) fun xs'' ys'' g' => nm_e (ih (k + 1) m xs'' ys'' (by omega) (by omega) (by omega) (gp_at_c (fun j hj => ?_) g')))
        (try dsimp only)
        by_cases c : j = k + 1
        · rw [if_pos c, if_neg (show ¬ k < k by omega), if_pos rfl, if_neg (by omega), if_pos c]
        · rw [if_neg c]
          by_cases c2 : j = k
          · rw [if_pos c2, if_neg (by omega), if_neg (by omega), if_pos (by omega), c2]
          · rw [if_neg c2]
            by_cases c3 : j < k
            · rw [if_pos c3, if_pos (by omega)]
            · rw [if_neg c3, if_neg c2, if_neg (show ¬ j < k + 1 by omega), if_neg c]
  unfold wpX_rotate
  refine ⟨n + 1, loop n 0 (n + 1) xs ys (by omega) (by omega) (by omega) (gp_at_c (fun j hj => ?_) h)⟩
  (try dsimp only)
  rw [if_neg (by omega)]
  by_cases c : j = 0
  · rw [if_pos c, c]
  · rw [if_neg c]
end
end
section
/-! X's keep; Y: corners come, go and move -/
def gp_kn (n p q : Nat) : Nat := (q + n - p) % n + 1
section
variable {n : Nat} {P : Nat → Int × Int} {fw : Int32} {xs ys ln wy od wr : Nat → Int32}
theorem gx_keep (h : gp_at n P xs ys) (a b : Int32) {post : Int32 → SX → Prop} (h0 : ¬ gp_C2 n (gp_CX n P) a b → post (-1000) (nI n, fw, xs, ys, ln, wy, od, wr))
    (h1 : ∀ p q, p < n → q < n → a = nI p → b = nI q → gp_CX n P p q → ∀ xs' ys', gp_at (gp_kn n p q) (fun j => P ((p + j) % n)) xs' ys' → post (nI (gp_kn n p q)) (nI (gp_kn n p q), fw, xs', ys', ln, wy, od, wr)) : wpX_keep post (nI n, fw, xs, ys, ln, wy, od, wr) a b := by
  have h10 := h.1
  unfold wpX_keep
  refine gx_cut h a b (gp_bb h0 fun c => ?_)
  obtain ⟨p, q, hp, hq, ea, eb, cc⟩ := c
  subst ea; subst eb
  have npq : p ≠ q := cc.2.1
  have kle : gp_kn n p q ≤ n := by
    unfold gp_kn
    have := Nat.mod_lt (q + n - p) (show 0 < n by omega)
    omega
  have loop : ∀ (d t m : Nat) (xs' ys' : Nat → Int32), t + d = p → d < m → gp_at n (fun j => P ((j + t) % n)) xs' ys' → wX_keep_43 post (nI p) (nI (gp_kn n p q)) m (nI t) (nI n) fw xs' ys' ln wy od wr := by
    intro d
    induction d with
    | zero =>
      intro t m xs' ys' e dm g
      obtain ⟨m, rfl⟩ : ∃ m', m = m' + 1 := ⟨m - 1, by omega⟩
      rw [wX_keep_43]
      refine br_t (nI_le (by omega) (by omega)) (h1 p q hp hq rfl rfl cc xs' ys' ⟨by omega, fun j hj => ?_⟩)
      have := g.2 j (by omega)
      dsimp only at this
      rw [show j + t = p + j by omega] at this
      exact this
    | succ d ih =>
      intro t m xs' ys' e dm g
      obtain ⟨m, rfl⟩ : ∃ m', m = m' + 1 := ⟨m - 1, by omega⟩
      rw [wX_keep_43]
      refine br_f (nI_ge (by omega) (by omega)) (gx_rotate g fun xs'' ys'' g' => nm_r (nI_1 t) (ih (t + 1) m xs'' ys'' (by omega) (by omega) (gp_at_c (fun j hj => ?_) g')))
      (try dsimp only)
      rw [Nat.mod_add_mod, show j + 1 + t = j + (t + 1) by omega]
  have start : ∃ m, wX_keep_43 post (nI p) (nI (gp_kn n p q)) m 0 (nI n) fw xs ys ln wy od wr := ⟨p + 1, loop p 0 (p + 1) xs ys (by omega) (by omega) (gp_at_c (fun j hj => by (try dsimp only); rw [Nat.add_zero, Nat.mod_eq_of_lt hj]) h)⟩
  refine gp_nle (by omega) (by omega) (fun c => nm_r (e' := nI (gp_kn n p q)) ?_ start) (fun c => nm_r (e' := nI (gp_kn n p q)) ?_ start)
  · unfold gp_kn
    rw [pk_sub (by omega), nI_add, nI_1, Nat.mod_eq_of_lt (by omega)]
    exact congrArg nI (by omega)
  · unfold gp_kn
    rw [pk_sub (by omega), nI_1, show q + n - p = q - p + n by omega, Nat.add_mod_right, Nat.mod_eq_of_lt (by omega)]
end
section
variable {n : Nat} {P : Nat → Int × Int} {pc : Int32} {xs ys kx ky pr cn : Nat → Int32}
theorem gy_corner (h : gp_at n P xs ys) (p0 : Int32) {post : Int32 → SY → Prop} (hb : (∀ k, k < 256 → p0 ≠ nI k) → post (-1) (nI n, pc, xs, ys, kx, ky, pr, cn)) (hf : (∃ k, k < 256 ∧ p0 = nI k) → n = 10 → post (-2) (nI n, pc, xs, ys, kx, ky, pr, cn))
    (ho : ∀ k, k < 256 → p0 = nI k → n < 10 → ∀ xs' ys', gp_at (n + 1) (gp_addc P n k) xs' ys' → post (nI n) (nI (n + 1), pc, xs', ys', kx, ky, pr, cn)) : wpY_corner post (nI n, pc, xs, ys, kx, ky, pr, cn) p0 := by
  have h10 := h.1
  unfold wpY_corner
  refine gy_isPoint p0 (fun c => br_t rfl (hb c)) (fun k hk e => br_f gp_one_ne (gp_neq (b := 10) (by omega) (by omega) (fun c => hf ⟨k, hk, e⟩ c) (fun c => ?_)))
  subst e
  have v : vp_in (nI n) 10 := vp_in_nI (by omega) (by omega)
  rw [(gp_pn_y hk).1, (gp_pn_y hk).2, gp_cl (by omega)]
  refine ⟨by decide, v, nm_e ⟨by decide, v, nm_e (nm_r (nI_1 n) ?_)⟩⟩
  rw [nI_pred]
  exact ho k hk rfl (by omega) _ _ (gp_at_add h (by omega) hk)
theorem gy_insert (h : gp_at n P xs ys) (p0 p1 : Int32) {post : Int32 → SY → Prop} (hb : ((∀ k, k < 256 → p1 ≠ nI k) ∨ ∀ i, i ≤ n → p0 ≠ nI i) → post (-1) (nI n, pc, xs, ys, kx, ky, pr, cn)) (hf : (∃ k, k < 256 ∧ p1 = nI k) → (∃ i, i ≤ n ∧ p0 = nI i) → n = 10 → post (-2) (nI n, pc, xs, ys, kx, ky, pr, cn))
    (ho : ∀ k, k < 256 → p1 = nI k → ∀ i, i ≤ n → p0 = nI i → n < 10 → ∀ xs' ys', gp_at (n + 1) (gp_insc P i k) xs' ys' → post (nI (n + 1)) (nI (n + 1), pc, xs', ys', kx, ky, pr, cn)) : wpY_insert post (nI n, pc, xs, ys, kx, ky, pr, cn) p0 p1 := by
  have h10 := h.1
  unfold wpY_insert
  refine gy_isPoint p1 (fun c => br_t rfl (hb (Or.inl c))) (fun k hk e => br_f gp_one_ne (br_c (fun c => hb (Or.inr fun i hi z => ?_)) (fun c => ?_)))
  · rw [z] at c; exact nI_pos (by omega) c
  · obtain ⟨i, hi, rfl⟩ := nI_of c
    by_cases q : i ≤ n
    · refine br_t (nI_le q (by omega)) (gp_neq (b := 10) (by omega) (by omega) (fun c => hf ⟨k, hk, e⟩ ⟨i, q, rfl⟩ c) (fun c => ⟨n + 1, ?_⟩))
      subst e
      have loop : ∀ (d j m : Nat) (xs' ys' : Nat → Int32), j = i + d → j ≤ n → d < m → gp_gap n P j xs' ys' → wY_insert_39 post (nI i) (nI k) (nI n) pc m (nI j) xs' ys' kx ky pr cn := by
        intro d
        induction d with
        | zero =>
          intro j m xs' ys' e jn dm g
          obtain ⟨m, rfl⟩ : ∃ m', m = m' + 1 := ⟨m - 1, by omega⟩
          have v : vp_in (nI i) 10 := vp_in_nI (by omega) (by omega)
          rw [wY_insert_39]
          dsimp only
          rw [(gp_pn_y hk).1, (gp_pn_y hk).2, gp_cl (i := i) (by omega)]
          have ji : j = i := by omega
          subst ji
          exact br_t (nI_le (by omega) (by omega)) ⟨by decide, v, nm_e ⟨by decide, v, nm_e (nm_r (nI_1 n) (ho k hk rfl j q rfl (by omega) _ _ (gp_gap_e h (by omega) q g hk)))⟩⟩
        | succ d ih =>
          intro j m xs' ys' e jn dm g
          obtain ⟨m, rfl⟩ : ∃ m', m = m' + 1 := ⟨m - 1, by omega⟩
          obtain ⟨j, rfl⟩ : ∃ j', j = j' + 1 := ⟨j - 1, by omega⟩
          rw [wY_insert_39]
          dsimp only
          rw [nI_pred, gp_cl (i := j) (by omega), gp_cl (i := j + 1) (by omega)]
          have v : vp_in (nI j) 10 := vp_in_nI (by omega) (by omega)
          have v1 : vp_in (nI (j + 1)) 10 := vp_in_nI (by omega) (by omega)
          exact br_f (nI_ge (by omega) (by omega)) ⟨v, v1, nm_e ⟨v, v1, nm_e (nm_r (pk_m1 j) (ih j m _ _ (by omega) (by omega) (by omega) (gp_gap_s (by omega) g)))⟩⟩
      exact loop (n - i) n (n + 1) xs ys (by omega) (by omega) (by omega) (fun j hj => ⟨fun z => ⟨(h.2 j z).1, (h.2 j z).2.1⟩, fun z => by omega⟩)
    · refine br_f (nI_ge (by omega) (by omega)) (hb (Or.inr fun j hj z => ?_))
      rw [nI_eq hi (by omega)] at z
      omega
theorem gy_remove (h : gp_at n P xs ys) (p0 : Int32) {post : Int32 → SY → Prop} (hb : (∀ i, i < n → p0 ≠ nI i) → post (-1) (nI n, pc, xs, ys, kx, ky, pr, cn))
    (ho : ∀ i, i < n → p0 = nI i → ∀ xs' ys', gp_at (n - 1) (gp_remc P i) xs' ys' → post (gp_I (16 * (P i).2 + (P i).1)) (nI (n - 1), pc, xs', ys', kx, ky, pr, cn)) : wpY_remove post (nI n, pc, xs, ys, kx, ky, pr, cn) p0 := by
  have h10 := h.1
  unfold wpY_remove
  refine br_c (fun c => hb fun i hi e => ?_) (fun c => ?_)
  · rw [e] at c; exact nI_pos (by omega) c
  · obtain ⟨i, hj, rfl⟩ := nI_of c
    by_cases hi : i < n
    · have e1 : nI n - 1 = nI (n - 1) := by rw [show (1 : Int32) = nI 1 from rfl, pk_sub (by omega)]
      refine br_t (nI_lt hi (by omega)) ⟨gp_vi h hi, gp_vi h hi, nm_r (e' := gp_I (16 * (P i).2 + (P i).1)) ?_ (nm_r e1 ⟨n + 1, ?_⟩)⟩
      · rw [gp_rx h hi, gp_ry h hi, show (16 : Int32) = gp_I 16 from rfl, ← gp_I_mul, ← gp_I_add]
      · have loop : ∀ (d k m : Nat) (xs' ys' : Nat → Int32), k + d = n - 1 → i ≤ k → d < m → gp_cls n P i k xs' ys' → wY_remove_43 post (gp_I (16 * (P i).2 + (P i).1)) (nI (n - 1)) pc m (nI k) xs' ys' kx ky pr cn := by
          intro d
          induction d with
          | zero =>
            intro k m xs' ys' e ik dm g
            obtain ⟨m, rfl⟩ : ∃ m', m = m' + 1 := ⟨m - 1, by omega⟩
            rw [wY_remove_43]
            rw [show k = n - 1 by omega] at g
            exact br_t (nI_le (by omega) (by omega)) (ho i hi rfl _ _ (gp_cls_e h hi g))
          | succ d ih =>
            intro k m xs' ys' e ik dm g
            obtain ⟨m, rfl⟩ : ∃ m', m = m' + 1 := ⟨m - 1, by omega⟩
            have v : vp_in (nI k) 10 := vp_in_nI (by omega) (by omega)
            have v1 : vp_in (nI (k + 1)) 10 := vp_in_nI (by omega) (by omega)
            rw [wY_remove_43]
            dsimp only
            rw [nI_1 k, gp_cl (i := k) (by omega), gp_cl (i := k + 1) (by omega)]
            exact br_f (nI_ge (by omega) (by omega)) ⟨v1, v, nm_e ⟨v1, v, nm_e (nm_e (ih (k + 1) m _ _ (by omega) (by omega) (by omega) (gp_cls_s ik (by omega) g)))⟩⟩
        exact loop (n - 1 - i) i (n + 1) xs ys (by omega) (by omega) (by omega) (gp_cls_0 h hi)
    · refine br_f (nI_nlt (by omega) (by omega)) (hb fun j hj' e => ?_)
      rw [nI_eq hj (by omega)] at e
      omega
theorem gp_long {x a : Int} (hx : 0 ≤ x ∧ x < 16) (ra : gp_rg a) : ((gp_I x).toInt64 + (gp_I a).toInt64).toInt = x + a := by
  have r1 : gp_rg x := gp_rg_s (by omega)
  unfold gp_rg at ra
  rw [Int64.toInt_add, Int32.toInt_toInt64, Int32.toInt_toInt64, gp_I_t r1, gp_I_t ra]
  exact Int.bmod_eq_of_le (by omega) (by omega)
theorem gy_isOnGrid (v : Int64) {w : Int} (e : v.toInt = w) {post : Int32 → Prop} (hp : post (gp_b (0 ≤ w ∧ w < 16))) : wpY_isOnGrid post (nI n, pc, xs, ys, kx, ky, pr, cn) v := by
  unfold wpY_isOnGrid
  have z0 : (0 : Int64).toInt = 0 := by decide
  have z15 : (15 : Int64).toInt = 15 := by decide
  rw [Int64.lt_iff_toInt_lt, Int64.lt_iff_toInt_lt, e, z0, z15]
  exact br_c (fun c => gp_pf hp (by omega)) (fun c => br_c (fun d => gp_pf hp (by omega)) (fun d => gp_pt hp (by omega)))
theorem gy_move (h : gp_at n P xs ys) (a b : Int) (ra : gp_rg a) (rb : gp_rg b) {post : Int32 → SY → Prop} (hb : ¬ gp_mvok n P a b → post (-1) (nI n, pc, xs, ys, kx, ky, pr, cn))
    (ho : gp_mvok n P a b → ∀ xs' ys', gp_at n (gp_mvc P a b n) xs' ys' → post (nI n) (nI n, pc, xs', ys', kx, ky, pr, cn)) : wpY_move post (nI n, pc, xs, ys, kx, ky, pr, cn) (gp_I a) (gp_I b) := by
  have h10 := h.1
  have w54 : gp_mvok n P a b → ∃ m, wY_move_54 post (gp_I a) (gp_I b) (nI n) pc m 0 xs ys kx ky pr cn := by
    intro ok
    have loop : ∀ (d i m : Nat) (xs' ys' : Nat → Int32), i + d = n → d < m → gp_at n (gp_mvc P a b i) xs' ys' → wY_move_54 post (gp_I a) (gp_I b) (nI n) pc m (nI i) xs' ys' kx ky pr cn := by
      intro d
      induction d with
      | zero =>
        intro i m xs' ys' e dm g
        obtain ⟨m, rfl⟩ : ∃ m', m = m' + 1 := ⟨m - 1, by omega⟩
        rw [wY_move_54]
        rw [show i = n by omega] at g
        exact br_t (nI_le (by omega) (by omega)) (ho ok _ _ g)
      | succ d ih =>
        intro i m xs' ys' e dm g
        obtain ⟨m, rfl⟩ : ∃ m', m = m' + 1 := ⟨m - 1, by omega⟩
        have v : vp_in (nI i) 10 := vp_in_nI (by omega) (by omega)
        rw [wY_move_54]
        dsimp only
        rw [gp_cl (i := i) (by omega)]
        exact br_f (nI_ge (by omega) (by omega)) ⟨v, v, nm_e ⟨v, v, nm_e (nm_r (nI_1 i) (ih (i + 1) m _ _ (by omega) (by omega) (gp_mv_s (by omega) (ok i (by omega)) g)))⟩⟩
    exact ⟨n + 1, loop n 0 (n + 1) xs ys (by omega) (by omega) (gp_at_c (fun j _ => by unfold gp_mvc; rw [if_neg (by omega)]) h)⟩
  have loop : ∀ (d i m : Nat), i + d = n → d < m → (∀ j, j < i → gp_gr ((P j).1 + a, (P j).2 + b)) → wY_move_2 post (gp_I a) (gp_I b) (nI n) pc xs ys kx ky pr cn m (nI i) := by
    intro d
    induction d with
    | zero =>
      intro i m e dm ok
      obtain ⟨m, rfl⟩ : ∃ m', m = m' + 1 := ⟨m - 1, by omega⟩
      rw [wY_move_2]
      exact br_t (nI_le (by omega) (by omega)) (w54 fun j hj => ok j (by omega))
    | succ d ih =>
      intro i m e dm ok
      obtain ⟨m, rfl⟩ : ∃ m', m = m' + 1 := ⟨m - 1, by omega⟩
      have hi : i < n := by omega
      have bi := gp_rb h hi
      rw [wY_move_2]
      refine br_f (nI_ge (by omega) (by omega)) ⟨gp_vi h hi, ?_⟩
      rw [gp_rx h hi, gp_ry h hi]
      refine gy_isOnGrid _ (gp_long (by omega) ra) (gp_bb (fun q => hb fun ok => ?_) (fun q1 => ⟨gp_vi h hi, gy_isOnGrid _ (gp_long (by omega) rb) (gp_bb (fun q => hb fun ok => ?_) (fun q2 => nm_r (nI_1 i) (ih (i + 1) m (by omega) (by omega) fun j hj => ?_)))⟩))
      · have := ok i hi; unfold gp_gr at this; dsimp only at this; omega
      · have := ok i hi; unfold gp_gr at this; dsimp only at this; omega
      · by_cases z : j = i
        · subst z
          unfold gp_gr
          dsimp only
          omega
        · exact ok j (by omega)
  unfold wpY_move
  exact ⟨n + 1, loop n 0 (n + 1) (by omega) (by omega) (fun j hj => by omega)⟩
theorem gy_takeKept {m : Nat} {Q : Nat → Int × Int} {fc : Int32} (hk : gp_at m Q kx ky) {post : SY → Prop} (hp : ∀ xs' ys', gp_at m Q xs' ys' → post (nI m, pc, xs', ys', kx, ky, pr, cn)) : wpY_takeKept post (fc, pc, xs, ys, kx, ky, pr, cn) (nI m) := by
  have h10 := hk.1
  have loop : ∀ (d i f : Nat) (xs' ys' : Nat → Int32), i + d = m → d < f → (∀ j, j < i → xs' j = kx j ∧ ys' j = ky j) → wY_takeKept_2 post (nI m) fc pc f (nI i) xs' ys' kx ky pr cn := by
    intro d
    induction d with
    | zero =>
      intro i f xs' ys' e df g
      obtain ⟨f, rfl⟩ : ∃ f', f = f' + 1 := ⟨f - 1, by omega⟩
      rw [wY_takeKept_2]
      refine br_t (nI_le (by omega) (by omega)) (hp _ _ ⟨h10, fun j hj => ?_⟩)
      have q := g j (by omega)
      rw [q.1, q.2]
      exact hk.2 j hj
    | succ d ih =>
      intro i f xs' ys' e df g
      obtain ⟨f, rfl⟩ : ∃ f', f = f' + 1 := ⟨f - 1, by omega⟩
      have v : vp_in (nI i) 10 := vp_in_nI (by omega) (by omega)
      rw [wY_takeKept_2]
      dsimp only
      rw [gp_cl (i := i) (by omega)]
      refine br_f (nI_ge (by omega) (by omega)) ⟨v, v, nm_e ⟨v, v, nm_e (nm_r (nI_1 i) (ih (i + 1) f _ _ (by omega) (by omega) fun j hj => ?_))⟩⟩
      unfold upd
      by_cases c : j = i
      · rw [if_pos c, if_pos c, c]; exact ⟨rfl, rfl⟩
      · rw [if_neg c, if_neg c]; exact g j (by omega)
  unfold wpY_takeKept
  exact ⟨m + 1, loop m 0 (m + 1) xs ys (by omega) (by omega) (fun j hj => by omega)⟩
/-- a loop that copies corners to the side: what stands there -/
theorem gp_kp {Q : Nat → Int × Int} {i s : Nat} {kx ky : Nat → Int32} (h : gp_at n P xs ys) (hs : s < n) (e : P s = Q i) (g : ∀ j, j < i → kx j = gp_I (Q j).1 ∧ ky j = gp_I (Q j).2) :
    ∀ j, j < i + 1 → upd kx i (xs (nI s).toNatClampNeg) j = gp_I (Q j).1 ∧ upd ky i (ys (nI s).toNatClampNeg) j = gp_I (Q j).2 := by
  intro j hj
  unfold upd
  by_cases c : j = i
  · rw [if_pos c, if_pos c, gp_rx h hs, gp_ry h hs, e, c]; exact ⟨rfl, rfl⟩
  · rw [if_neg c, if_neg c]; exact g j (by omega)
theorem gy_reverse (h : gp_at n P xs ys) {post : Int32 → SY → Prop} (hp : ∀ xs' ys' kx' ky', gp_at n (fun j => if j = 0 then P 0 else P (n - j)) xs' ys' → post (nI n) (nI n, pc, xs', ys', kx', ky', pr, cn)) : wpY_reverse post (nI n, pc, xs, ys, kx, ky, pr, cn) := by
  have h10 := h.1
  have loop : ∀ (d i f : Nat) (kx' ky' : Nat → Int32), i + d = n → d < f → (∀ j, j < i → kx' j = gp_I ((fun j => if j = 0 then P 0 else P (n - j)) j).1 ∧ ky' j = gp_I ((fun j => if j = 0 then P 0 else P (n - j)) j).2) → wY_reverse_2 post (nI n) pc f (nI i) xs ys kx' ky' pr cn := by
    intro d
    induction d with
    | zero =>
      intro i f kx' ky' e df g
      obtain ⟨f, rfl⟩ : ∃ f', f = f' + 1 := ⟨f - 1, by omega⟩
      rw [wY_reverse_2]
      refine br_t (nI_le (by omega) (by omega)) (gy_takeKept (Q := fun j => if j = 0 then P 0 else P (n - j)) ⟨h10, fun j hj => ?_⟩ fun xs' ys' g' => hp xs' ys' kx' ky' g')
      have q := g j (by omega)
      refine ⟨q.1, q.2, ?_⟩
      dsimp only
      by_cases c : j = 0
      · rw [if_pos c]; exact gp_rb h (by omega)
      · rw [if_neg c]; exact gp_rb h (by omega)
    | succ d ih =>
      intro i f kx' ky' e df g
      obtain ⟨f, rfl⟩ : ∃ f', f = f' + 1 := ⟨f - 1, by omega⟩
      have hi : i < n := by omega
      have hs : (n - i) % n < n := Nat.mod_lt _ (by omega)
      have n0 : ¬ nI n = 0 := nI_ne0 (by omega) (by omega)
      have e1 : (nI n - nI i) - (nI n - nI i) / nI n * nI n = nI ((n - i) % n) := by
        rw [pk_sub (by omega)]; exact gp_md (by omega) (by omega) h10
      rw [wY_reverse_2]
      dsimp only
      rw [e1]
      refine br_f (nI_ge (by omega) (by omega)) ⟨n0, gp_vi h hs, gp_vi h hi, nm_e ⟨n0, gp_vi h hs, gp_vi h hi, nm_e (nm_r (nI_1 i) (ih (i + 1) f _ _ (by omega) (by omega) ?_))⟩⟩
      rw [gp_cl (i := i) (by omega)]
      refine gp_kp h hs ?_ g
      (try dsimp only)
      by_cases c : i = 0
      · rw [if_pos c, c, Nat.sub_zero, Nat.mod_self]
      · rw [if_neg c, Nat.mod_eq_of_lt (by omega)]
  unfold wpY_reverse
  exact ⟨n + 1, loop n 0 (n + 1) kx ky (by omega) (by omega) (fun j hj => by omega)⟩
theorem gy_keep (h : gp_at n P xs ys) (a b : Int32) {post : Int32 → SY → Prop} (h0 : ¬ gp_C2 n (gp_CY n P) a b → post (-1000) (nI n, pc, xs, ys, kx, ky, pr, cn))
    (h1 : ∀ p q, p < n → q < n → a = nI p → b = nI q → gp_CY n P p q → ∀ xs' ys' kx' ky', gp_at (gp_kn n p q) (fun j => P ((p + j) % n)) xs' ys' → post (nI (gp_kn n p q)) (nI (gp_kn n p q), pc, xs', ys', kx', ky', pr, cn)) : wpY_keep post (nI n, pc, xs, ys, kx, ky, pr, cn) a b := by
  have h10 := h.1
  unfold wpY_keep
  refine gy_cut h a b (gp_bb h0 fun c => ?_)
  obtain ⟨p, q, hp, hq, ea, eb, cc⟩ := c
  subst ea; subst eb
  have n0 : ¬ nI n = 0 := nI_ne0 (by omega) (by omega)
  have kle : gp_kn n p q ≤ n := by
    unfold gp_kn
    have := Nat.mod_lt (q + n - p) (show 0 < n by omega)
    omega
  have e1 : ((nI q - nI p) + nI n) - ((nI q - nI p) + nI n) / nI n * nI n + 1 = nI (gp_kn n p q) := by
    have e2 : (nI q - nI p) + nI n = nI (q + n - p) := by
      rw [gp_nI, gp_nI, gp_nI, gp_nI, ← gp_I_sub, ← gp_I_add]; exact congrArg gp_I (by omega)
    rw [e2, gp_md (by omega) (by omega) h10, nI_1]; rfl
  have loop : ∀ (d i f : Nat) (kx' ky' : Nat → Int32), i + d = gp_kn n p q → d < f → (∀ j, j < i → kx' j = gp_I ((fun j => P ((p + j) % n)) j).1 ∧ ky' j = gp_I ((fun j => P ((p + j) % n)) j).2) → wY_keep_32 post (nI p) (nI (gp_kn n p q)) (nI n) pc f (nI i) xs ys kx' ky' pr cn := by
    intro d
    induction d with
    | zero =>
      intro i f kx' ky' e df g
      obtain ⟨f, rfl⟩ : ∃ f', f = f' + 1 := ⟨f - 1, by omega⟩
      rw [wY_keep_32]
      refine br_t (nI_le (by omega) (by omega)) (gy_takeKept (Q := fun j => P ((p + j) % n)) ⟨by omega, fun j hj => ?_⟩ fun xs' ys' g' => h1 p q hp hq rfl rfl cc xs' ys' kx' ky' g')
      have q1 := g j (by omega)
      exact ⟨q1.1, q1.2, gp_rb h (Nat.mod_lt _ (by omega))⟩
    | succ d ih =>
      intro i f kx' ky' e df g
      obtain ⟨f, rfl⟩ : ∃ f', f = f' + 1 := ⟨f - 1, by omega⟩
      have hi : i < n := by omega
      have hs : (p + i) % n < n := Nat.mod_lt _ (by omega)
      have e2 : (nI p + nI i) - (nI p + nI i) / nI n * nI n = nI ((p + i) % n) := by
        rw [nI_add]; exact gp_md (by omega) (by omega) h10
      rw [wY_keep_32]
      dsimp only
      rw [e2]
      refine br_f (nI_ge (by omega) (by omega)) ⟨n0, gp_vi h hs, gp_vi h hi, nm_e ⟨n0, gp_vi h hs, gp_vi h hi, nm_e (nm_r (nI_1 i) (ih (i + 1) f _ _ (by omega) (by omega) ?_))⟩⟩
      rw [gp_cl (i := i) (by omega)]
      exact gp_kp h hs rfl g
  exact ⟨n0, nm_r e1 ⟨n + 1, loop (gp_kn n p q) 0 (n + 1) kx ky (by omega) (by omega) (fun j hj => by omega)⟩⟩
end
end
section
/-! both sides against the plain polygon -/
def gp_pe (n : Nat) (P : Nat → Int × Int) : Nat → Int × Int := fun i => P (i % n)
theorem gp_pe_lt {n : Nat} {P : Nat → Int × Int} {i : Nat} (h : i < n) : gp_pe n P i = P i := by unfold gp_pe; rw [Nat.mod_eq_of_lt h]
theorem gp_pe_per {n : Nat} {P : Nat → Int × Int} (i : Nat) : gp_pe n P (i + n) = gp_pe n P i := by unfold gp_pe; rw [Nat.add_mod_right]
theorem gp_dotf {h i k : Int × Int} (h1 : gp_H h ≠ gp_H i) (h2 : gp_H i ≠ gp_H k) (t : gp_turn h i k = 0) : (gp_os k h i ∨ gp_os h i k) ↔ 0 < (k.1 - i.1) * (h.1 - i.1) + (k.2 - i.2) * (h.2 - i.2) := by
  have z : gp_x (gp_d k i) (gp_d h i) = 0 := by unfold gp_turn at t; unfold gp_x gp_d; dsimp only; grind
  have e := gp_par z (gp_d h i)
  have pos : 0 < gp_f (gp_d h i) (gp_d h i) := by
    unfold gp_f
    by_cases c1 : (gp_d h i).1 = 0
    · have c2 : (gp_d h i).2 ≠ 0 := fun c2 => by
        apply h1
        have : gp_H (gp_d h i) = 0 := by unfold gp_H; omega
        rw [gp_Hd] at this
        omega
      have s := gp_sgn (gp_d h i).2 (gp_d h i).2
      rw [c1]
      omega
    · have s := gp_sgn (gp_d h i).1 (gp_d h i).1
      have s' := gp_sgn (gp_d h i).2 (gp_d h i).2
      omega
  have e2 : (k.1 - i.1) * (h.1 - i.1) + (k.2 - i.2) * (h.2 - i.2) = gp_f (gp_d h i) (gp_d k i) := by
    unfold gp_f gp_d; dsimp only; grind
  have hu := gp_Hd k i
  have hv := gp_Hd h i
  have s := gp_sr e (by omega) (by omega)
  clear e
  have t2 : gp_turn i k h = 0 := by unfold gp_turn at *; grind
  rw [gp_os_H h1, gp_os_H h2, e2]
  constructor
  · rintro (⟨_, w⟩ | ⟨_, w⟩) <;> omega
  · intro w
    by_cases c : (gp_H h ≤ gp_H k ∧ gp_H k ≤ gp_H i) ∨ (gp_H i ≤ gp_H k ∧ gp_H k ≤ gp_H h)
    · exact Or.inl ⟨t, c⟩
    · exact Or.inr ⟨t2, by omega⟩
section
variable {n : Nat} {P : Nat → Int × Int} {xs ys : Nat → Int32}
theorem gp_PXY (h : gp_at n P xs ys) : gp_PX n P ↔ gp_PY n P := by
  have inn : ∀ i, i < n → gp_in (P i) := fun i hi => gp_ri h hi
  by_cases n3 : 3 ≤ n
  · have gf : (∀ i, i < n → ∀ k, i < k → k < n → ¬ P i = P k) → ∀ i, i < n → (gp_good n P i ↔ ¬ gp_fold (P ((i + n - 1) % n)) (P i) (P ((i + 1) % n))) := by
      intro d i hi
      have ja := gp_n1 hi
      have hb := gp_n2 hi
      have ne : ∀ a b, a < n → b < n → a ≠ b → gp_H (P a) ≠ gp_H (P b) := fun a b ha hb ab => gp_in_Hne (inn a ha) (inn b hb) fun e => by
        rcases Nat.lt_or_gt_of_ne ab with c | c
        · exact d a ha b c hb e
        · exact d b hb a c ha e.symm
      have e1 := gp_af hi
      have e2 := gp_bf hi
      have n1 : (i + n - 1) % n ≠ i := by rw [e2]; split <;> omega
      have n2 : i ≠ (i + 1) % n := by rw [e1]; split <;> omega
      unfold gp_good gp_fold
      by_cases t : gp_turn (P ((i + n - 1) % n)) (P i) (P ((i + 1) % n)) = 0
      · rw [gp_dotf (ne _ _ hb hi n1) (ne _ _ hi ja n2) t]
      · exact ⟨fun _ z => t z.1, fun _ z => t z.1⟩
    constructor
    · intro hx
      have d : ∀ i, i < n → ∀ k, i < k → k < n → ¬ P i = P k := fun i hi k ik kn => ((hx.2 i hi).2 k ik kn).1
      refine ⟨n3, fun i hi k ki => ⟨fun e => d k (by omega) i ki hi e.symm, fun a b mm => ?_⟩, fun i hi => (gf d i hi).mp (hx.2 i hi).1⟩
      have q := ((hx.2 k (by omega)).2 i ki hi).2
      unfold gp_apt at q
      rw [Nat.mod_eq_of_lt (show k + 1 < n by omega)] at q
      refine q (by omega) ?_ (gp_meet_sym mm)
      rw [gp_af hi]
      split <;> omega
    · intro hy
      have d : ∀ i, i < n → ∀ k, i < k → k < n → ¬ P i = P k := fun i hi k ik kn e => (hy.2.1 k kn i ik).1 e.symm
      refine ⟨n3, fun i hi => ⟨(gf d i hi).mpr (hy.2.2 i hi), fun k ik kn => ⟨d i hi k ik kn, fun a b mm => ?_⟩⟩⟩
      rw [Nat.mod_eq_of_lt (show i + 1 < n by omega)] at mm
      rw [gp_af kn] at b
      exact (hy.2.1 k kn i ik).2 (by omega) (by rintro ⟨z1, z2⟩; rw [if_pos z2] at b; omega) (gp_meet_sym mm)
  · exact ⟨fun z => absurd z.1 n3, fun z => absurd z.1 n3⟩
theorem gp_pe_Grid (h : gp_at n P xs ys) (h0 : 0 < n) : gp_Grid (gp_pe n P) := fun i => gp_rb h (Nat.mod_lt i h0)
theorem gp_pe_Poly (h : gp_at n P xs ys) (hy : gp_PY n P) : gp_Poly (gp_pe n P) n := by
  have n3 := hy.1
  refine gp_Poly_of gp_pe_per (fun i => gp_ri h (Nat.mod_lt i (by omega))) ⟨n3, fun i hi k ki => ?_, fun i hi k ki a b => ?_, fun i hi => ?_⟩
  · rw [gp_pe_lt hi, gp_pe_lt (show k < n by omega)]; exact (hy.2.1 i hi k ki).1
  · rw [gp_pe_lt hi, gp_pe_lt (show k < n by omega), gp_pe_lt (show k + 1 < n by omega)]; exact (hy.2.1 i hi k ki).2 a b
  · rw [gp_pe_lt hi]; exact hy.2.2 i hi
theorem gp_sa_e (h0 : 0 < n) : gp_sm (gp_sa n P) n = gp_sA (gp_pe n P) n := by
  unfold gp_sA
  refine gp_sm_congr fun i hi => ?_
  rw [gp_pe_lt hi]
  rfl
theorem gp_ep_e (h : gp_at n P xs ys) (hy : gp_PY n P) : gp_sm (gp_ep n P) n = gp_cB (gp_pe n P) n := by
  have n3 := hy.1
  rw [gp_edges (gp_pe_Poly h hy) (gp_pe_Grid h (by omega))]
  refine gp_sm_congr fun i hi => ?_
  rw [gp_pe_lt hi]
  rfl
theorem gp_pl_e (h : gp_at n P xs ys) (hy : gp_PY n P) {m : Int × Int} (hm : gp_in m) : gp_plY n P m = gp_pl (fun i => gp_k 2 (gp_pe n P i)) n m := by
  have n3 := hy.1
  have hq := gp_Poly_k (gp_pe_Poly h hy) (D := 2) (by omega)
  have hi2 : ∀ i, gp_in ((fun i => gp_k 2 (gp_pe n P i)) i) := gp_Grid_in2 (gp_pe_Grid h (by omega))
  have on : gp_oS n P m ↔ gp_onE (fun i => gp_k 2 (gp_pe n P i)) n m = 1 := by
    rw [← gp_onE_os hq hi2 hm]
    unfold gp_oS
    constructor
    · rintro ⟨i, hi, z⟩; exact ⟨i, hi, by (try dsimp only); rw [gp_pe_lt hi]; exact z⟩
    · rintro ⟨i, hi, z⟩; exact ⟨i, hi, by (try dsimp only at z); rw [gp_pe_lt hi] at z; exact z⟩
  unfold gp_plY gp_pl
  by_cases c : gp_oS n P m
  · rw [if_pos c, if_pos (on.mp c)]
  · have c' : gp_onE (fun i => gp_k 2 (gp_pe n P i)) n m ≠ 1 := fun z => c (on.mpr z)
    rw [if_neg c, if_neg c']
    have tw := gp_tg_w hq hi2 hm c' (gp_T n P m) (fun i hi => by
      unfold gp_T
      rw [decide_eq_true_iff, gp_pe_lt hi]
      exact Iff.rfl)
    by_cases q : gp_w (fun i => gp_k 2 (gp_pe n P i)) n m = 0
    · rw [if_pos q, if_neg (fun z => tw.mp z q)]
    · rw [if_neg q, if_pos (tw.mpr q)]
theorem gp_On_k {D : Int} (hD : 0 < D) (z a b : Int × Int) : gp_On (gp_k D z) (gp_k D a) (gp_k D b) ↔ gp_On z a b := by
  unfold gp_On
  rw [gp_kd, gp_kd, gp_xk, gp_Hk, gp_Hk, gp_Hk]
  have s1 := gp_spos (a := gp_x (gp_d z a) (gp_d b a)) (Int.mul_pos hD hD)
  have e : ∀ x y : Int, D * x < D * y ↔ x < y := fun x y => Int.mul_lt_mul_left hD
  rw [e, e, e, e, s1.2.2]
theorem gp_onE_k (m : Int × Int) : gp_onE (fun i => gp_k 2 (gp_pe n P i)) n (gp_k 2 m) = gp_onE (gp_pe n P) n m := by
  unfold gp_onE
  refine gp_sm_congr fun i _ => gp_if_iff ?_
  unfold gp_hs
  dsimp only
  rw [gp_On_k (by omega)]
  have : gp_k 2 m = gp_k 2 (gp_pe n P i) ↔ m = gp_pe n P i := by
    constructor
    · intro e
      have a : 2 * m.1 = 2 * (gp_pe n P i).1 := congrArg Prod.fst e
      have b : 2 * m.2 = 2 * (gp_pe n P i).2 := congrArg Prod.snd e
      exact Prod.ext (by omega) (by omega)
    · intro e; rw [e]
  rw [this]
theorem gp_nn_in {x y : Nat} (hx : x < 16) (hy : y < 16) : gp_in (gp_nn x y) ∧ gp_in (gp_k 2 (gp_nn x y)) := by
  unfold gp_in gp_k gp_nn
  dsimp only
  omega
/-- the place of a grid point -/
theorem gp_pl_g (h : gp_at n P xs ys) (hy : gp_PY n P) {x y : Nat} (hx : x < 16) (hyy : y < 16) :
    gp_plY n P (gp_k 2 (gp_nn x y)) = (if gp_onE (gp_pe n P) n (gp_nn x y) = 1 then 0 else if gp_w (gp_pe n P) n (gp_nn x y) = 0 then -1 else 1) := by
  rw [gp_pl_e h hy (gp_nn_in hx hyy).2]
  unfold gp_pl
  rw [gp_onE_k, gp_w_k (by omega)]
theorem gp_256 (f : Nat → Nat → Int) : gp_sm (fun t => f (t % 16) (t / 16)) 256 = gp_gs f := by
  have : ∀ m, gp_sm (fun t => f (t % 16) (t / 16)) (16 * m) = gp_sm (fun y => gp_sm (fun x => f x y) 16) m := by
    intro m
    induction m with
    | zero => rfl
    | succ m ih =>
      rw [Nat.mul_succ, gp_sm_app, ih, gp_sm_s (fun y => gp_sm (fun x => f x y) 16) m]
      refine gp_add2 rfl (gp_sm_congr fun x hx => ?_)
      rw [show (16 * m + x) % 16 = x by omega, show (16 * m + x) / 16 = m by omega]
  exact this 16
theorem gp_cnt_e (h : gp_at n P xs ys) (hy : gp_PY n P) : gp_sm (gp_cnt n P 1) 256 = gp_cI (gp_pe n P) n ∧ gp_sm (gp_cnt n P 0) 256 = gp_cB (gp_pe n P) n := by
  have n3 := hy.1
  have hp := gp_pe_Poly h hy
  have hg := gp_pe_Grid h (show 0 < n by omega)
  have key : ∀ t, t < 256 → gp_cnt n P 1 t = gp_inE (gp_pe n P) n (gp_nn (t % 16) (t / 16)) ∧ gp_cnt n P 0 t = gp_onE (gp_pe n P) n (gp_nn (t % 16) (t / 16)) := by
    intro t ht
    have x16 : t % 16 < 16 := by omega
    have y16 : t / 16 < 16 := by omega
    unfold gp_cnt gp_inE
    rw [gp_pl_g h hy x16 y16]
    rcases gp_onE_iff hp (gp_Grid_v hg x16 y16) with ⟨e, _⟩ | ⟨e, _⟩
    · rw [e]
      repeat' split
      all_goals omega
    · rw [e]
      repeat' split
      all_goals omega
  refine ⟨?_, ?_⟩
  · rw [gp_sm_congr fun t ht => (key t ht).1]
    exact gp_256 (fun x y => gp_inE (gp_pe n P) n (gp_nn x y))
  · rw [gp_sm_congr fun t ht => (key t ht).2]
    exact gp_256 (fun x y => gp_onE (gp_pe n P) n (gp_nn x y))
theorem gp_wh_e (h : gp_at n P xs ys) (hy : gp_PY n P) {k : Nat} (hk : k < 256) : gp_whX n P k = gp_I (gp_plY n P (gp_k 2 (gp_nn (k % 16) (k / 16)))) := by
  have n3 := hy.1
  have hp := gp_pe_Poly h hy
  have hg := gp_pe_Grid h (show 0 < n by omega)
  have x16 : k % 16 < 16 := by omega
  have y16 : k / 16 < 16 := by omega
  have im := (gp_nn_in x16 y16).1
  rw [gp_pl_g h hy x16 y16]
  have on : (∃ i, i < n ∧ gp_os (gp_nn (k % 16) (k / 16)) (P i) (P ((i + 1) % n))) ↔ gp_onE (gp_pe n P) n (gp_nn (k % 16) (k / 16)) = 1 := by
    rw [← gp_onE_os hp (gp_Grid_in hg) im]
    constructor
    · rintro ⟨i, hi, z⟩; exact ⟨i, hi, by rw [gp_pe_lt hi]; exact z⟩
    · rintro ⟨i, hi, z⟩; exact ⟨i, hi, by rw [gp_pe_lt hi] at z; exact z⟩
  have ww : gp_sm (gp_wi n P (gp_nn (k % 16) (k / 16))) n = gp_w (gp_pe n P) n (gp_nn (k % 16) (k / 16)) := by
    rw [gp_w_ws (gp_Grid_in hg) im]
    refine gp_sm_congr fun i hi => ?_
    rw [gp_pe_lt hi]; rfl
  unfold gp_whX
  rw [ww]
  by_cases c : ∃ i, i < n ∧ gp_os (gp_nn (k % 16) (k / 16)) (P i) (P ((i + 1) % n))
  · rw [if_pos c, if_pos (on.mp c)]; rfl
  · rw [if_neg c, if_neg (fun z => c (on.mpr z))]
    split <;> rfl
/-- the sense of going round, three ways -/
theorem gp_sgn_area (h : gp_at n P xs ys) (hy : gp_PY n P) : (gp_sm (gp_sa n P) n).sign = 2 * gp_Ga (gp_pe n P) n - 1 ∧ (0 < gp_sm (gp_sa n P) n ↔ gp_Ga (gp_pe n P) n = 1) := by
  have n3 := hy.1
  rw [gp_sa_e (by omega)]
  rcases gp_area (gp_pe_Poly h hy) (gp_pe_Grid h (by omega)) with ⟨g, a, _⟩ | ⟨g, a, _⟩
  · rw [g, Int.sign_eq_one_of_pos a]; exact ⟨rfl, fun _ => rfl, fun _ => a⟩
  · rw [g, Int.sign_eq_neg_one_of_neg a]; exact ⟨rfl, fun z => by omega, fun z => by omega⟩
theorem gp_tn_pe (n3 : 0 < n) {l : Nat} (hl : l < n) : gp_tn n P l = gp_turn (gp_pe n P (l + n - 1)) (gp_pe n P (l + n - 1 + 1)) (gp_pe n P (l + n - 1 + 2)) := by
  unfold gp_tn
  rw [show l + n - 1 + 1 = l + n by omega, gp_pe_per, gp_pe_lt hl, show l + n - 1 + 2 = l + 1 + n by omega, gp_pe_per]
  rfl
theorem gp_left_e (h : gp_at n P xs ys) (hy : gp_PY n P) {l : Nat} (hl : l < n) (hm : ∀ j, j < n → gp_lw (P l) (P j)) : (0 < gp_sm (gp_sa n P) n) ↔ 0 < gp_tn n P l := by
  have n3 := hy.1
  have hp := gp_pe_Poly h hy
  rw [(gp_sgn_area h hy).2, gp_tn_pe (by omega) hl]
  refine gp_left hp (l + n - 1) fun k k1 k2 => ?_
  have el : gp_pe n P (l + n - 1 + 1) = P l := by rw [show l + n - 1 + 1 = l + n by omega, gp_pe_per, gp_pe_lt hl]
  have ne := gp_P_ne hp (l + n - 1 + 1) k (by omega) (by omega)
  rw [el] at ne ⊢
  have m := hm (k % n) (Nat.mod_lt _ (by omega))
  have b1 := gp_rb h hl
  have b2 := gp_rb h (i := k % n) (Nat.mod_lt _ (by omega))
  have ek : gp_pe n P k = P (k % n) := rfl
  rw [ek] at ne ⊢
  unfold gp_lw at m
  unfold gp_f gp_d
  dsimp only
  have : (P l).1 ≠ (P (k % n)).1 ∨ (P l).2 ≠ (P (k % n)).2 := by
    by_cases c : (P l).1 = (P (k % n)).1
    · exact Or.inr fun d => ne (Prod.ext c d)
    · exact Or.inl c
  omega
theorem gp_t2_tn {i : Nat} (hi : i < n) : gp_t2 n P i = gp_tn n P ((i + 1) % n) := by
  unfold gp_t2 gp_tn
  have ja := gp_n1 hi
  have e1 : ((i + 1) % n + n - 1) % n = i := by
    rw [gp_bf ja, gp_af hi]
    repeat' split
    all_goals omega
  have e2 : ((i + 1) % n + 1) % n = (i + 2) % n := by rw [Nat.mod_add_mod]
  rw [e1, e2]
theorem gp_cv_e (h : gp_at n P xs ys) : gp_cvX n P ↔ gp_cvY n P := by
  have ex : ∀ Q : Int → Prop, (∃ i, i < n ∧ Q (gp_tn n P i)) ↔ (∃ i, i < n ∧ Q (gp_t2 n P i)) := by
    intro Q
    constructor
    · rintro ⟨i, hi, q⟩
      refine ⟨(i + n - 1) % n, gp_n2 hi, ?_⟩
      rw [gp_t2_tn (gp_n2 hi)]
      have : ((i + n - 1) % n + 1) % n = i := by
        rw [gp_af (gp_n2 hi), gp_bf hi]
        repeat' split
        all_goals omega
      rw [this]; exact q
    · rintro ⟨i, hi, q⟩
      exact ⟨(i + 1) % n, gp_n1 hi, by rw [← gp_t2_tn hi]; exact q⟩
  unfold gp_cvX gp_cvY
  rw [gp_PXY h, ex (fun v => 0 < v), ex (fun v => v < 0)]
/-- one end of a cut -/
theorem gp_end_e (h : gp_at n P xs ys) (hy : gp_PY n P) {p q : Nat} (hp : p < n) (hq : q < n) (c1 : p ≠ q) (c2 : (p + 1) % n ≠ q) (c3 : (q + 1) % n ≠ p) (cl : ∀ i, i < n → gp_clr n P p q i) :
    gp_opn n P (gp_sm (gp_sa n P) n).sign p q ↔ gp_plY n P (gp_mid (P p) (P q)) = 1 := by
  have n3 := hy.1
  have hP := gp_pe_Poly h hy
  have hG := gp_pe_Grid h (show 0 < n by omega)
  rw [gp_af hp] at c2
  rw [gp_af hq] at c3
  have ne : ∀ a b, a < n → b < n → P a = P b → a = b := by
    intro a b ha hb e
    rcases Nat.lt_trichotomy a b with c | c | c
    · exact absurd e.symm (hy.2.1 b hb a c).1
    · exact c
    · exact absurd e (hy.2.1 a ha b c).1
  have clear : gp_Clear (gp_pe n P) (P p) (P q) := by
    refine ⟨fun k a b => ?_, fun k a b c d => ?_⟩
    · have km : k % n < n := Nat.mod_lt _ (by omega)
      exact (cl (k % n) km).2 (fun e => a (by unfold gp_pe; rw [e])) (fun e => b (by unfold gp_pe; rw [e]))
    · have km : k % n < n := Nat.mod_lt _ (by omega)
      have e1 : gp_pe n P (k + 1) = P ((k % n + 1) % n) := by unfold gp_pe; rw [Nat.mod_add_mod]
      rw [e1] at c d ⊢
      exact (cl (k % n) km).1 (fun e => a (by unfold gp_pe; rw [e])) (fun e => b (by unfold gp_pe; rw [e])) (fun e => c (by rw [e])) (fun e => d (by rw [e]))
  have ex : ∃ j, p + n - 1 + 3 ≤ j ∧ j + 1 ≤ p + n - 1 + n ∧ gp_pe n P j = P q := by
    by_cases z : p < q
    · refine ⟨q + n, ?_, ?_, by rw [gp_pe_per, gp_pe_lt hq]⟩
      · by_cases w : p + 1 = n
        · omega
        · rw [if_neg w] at c2; omega
      · by_cases w : q + 1 = n
        · rw [if_pos w] at c3; omega
        · omega
    · refine ⟨q + n + n, ?_, ?_, by rw [gp_pe_per, gp_pe_per, gp_pe_lt hq]⟩
      · by_cases w : p + 1 = n
        · rw [if_pos w] at c2; omega
        · omega
      · by_cases w : q + 1 = n
        · omega
        · rw [if_neg w] at c3; omega
  obtain ⟨j, j1, j2, ej⟩ := ex
  have el : gp_pe n P (p + n - 1 + 1) = P p := by rw [show p + n - 1 + 1 = p + n by omega, gp_pe_per, gp_pe_lt hp]
  have el2 : gp_pe n P (p + n - 1 + 2) = P ((p + 1) % n) := by rw [show p + n - 1 + 2 = p + 1 + n by omega, gp_pe_per]; rfl
  have el0 : gp_pe n P (p + n - 1) = P ((p + n - 1) % n) := rfl
  have cw := gp_cut_w hP hG (p + n - 1) j j1 j2 (by rw [el, ej]; exact clear)
  rw [el, el2, el0, ej] at cw
  rw [gp_pl_e h hy (gp_mid_in h hp hq), cw, (gp_sgn_area h hy).1]
  exact Iff.rfl
theorem gp_clr_sw {p q i : Nat} (c : gp_clr n P p q i) : gp_clr n P q p i :=
  ⟨fun a b d e z => c.1 b a e d (gp_meet_sw z), fun a b z => c.2 b a (gp_os_sw z)⟩
theorem gp_IC_e (h : gp_at n P xs ys) (hy : gp_PY n P) {p q : Nat} (hp : p < n) (hq : q < n) : gp_ICX n P (gp_sm (gp_sa n P) n).sign p q ↔ gp_ICY n P p q := by
  constructor
  · rintro ⟨a, b, c, d, e, _⟩
    exact ⟨a, b, c, d, (gp_end_e h hy hp hq a b c d).mp e⟩
  · rintro ⟨a, b, c, d, e⟩
    refine ⟨a, b, c, d, (gp_end_e h hy hp hq a b c d).mpr e, (gp_end_e h hy hq hp (fun z => a z.symm) c b (fun i hi => gp_clr_sw (d i hi))).mpr ?_⟩
    have : gp_mid (P q) (P p) = gp_mid (P p) (P q) := by unfold gp_mid; rw [Int.add_comm, Int.add_comm (P q).2]
    rw [this]; exact e
theorem gp_C_e (h : gp_at n P xs ys) {p q : Nat} (hp : p < n) (hq : q < n) : gp_CX n P p q ↔ gp_CY n P p q := by
  unfold gp_CX gp_CY
  rw [gp_PXY h]
  constructor
  · rintro ⟨a, b⟩; exact ⟨a, (gp_IC_e h a hp hq).mp b⟩
  · rintro ⟨a, b⟩; exact ⟨a, (gp_IC_e h a hp hq).mpr b⟩
theorem gp_C2_e (h : gp_at n P xs ys) (a b : Int32) : gp_C2 n (gp_CX n P) a b ↔ gp_C2 n (gp_CY n P) a b := by
  constructor
  · rintro ⟨p, q, hp, hq, ea, eb, c⟩; exact ⟨p, q, hp, hq, ea, eb, (gp_C_e h hp hq).mp c⟩
  · rintro ⟨p, q, hp, hq, ea, eb, c⟩; exact ⟨p, q, hp, hq, ea, eb, (gp_C_e h hp hq).mpr c⟩
theorem gp_pc_e (h : gp_at n P xs ys) (hy : gp_PY n P) : gp_sm (gp_pc n (gp_ICX n P (gp_sm (gp_sa n P) n).sign)) n = gp_sm (gp_pc n (gp_ICY n P)) n := by
  refine gp_sm_congr fun p hp => gp_sm_congr fun q hq => ?_
  rw [propext (gp_IC_e h hy hp hq)]
theorem gp_tile_e (h : gp_at n P xs ys) (hy : gp_PY n P) {l : List (Nat × Nat)} (hC : gp_CL n (gp_ICY n P) l) : (gp_sub (n - 3) l []).length = gp_W (gp_B (gp_ICX n P (gp_sm (gp_sa n P) n).sign)) 0 (n - 1) := by
  have h10 := h.1
  refine gp_tile_eq _ n l hy.1 h10 hC.1 fun a b => ?_
  rw [hC.2.1, gp_B_t]
  constructor
  · rintro ⟨ab, bn, c⟩
    have c2 := c.2.1
    have c3 := c.2.2.1
    rw [gp_af (show a < n by omega)] at c2
    rw [gp_af bn] at c3
    refine ⟨?_, bn, ?_, (gp_IC_e h hy (by omega) bn).mpr c⟩
    · by_cases w : a + 1 = n
      · omega
      · rw [if_neg w] at c2; omega
    · rintro ⟨z1, z2⟩
      rw [if_pos z2] at c3
      omega
  · rintro ⟨ab, bn, _, c⟩
    exact ⟨by omega, bn, (gp_IC_e h hy (by omega) bn).mp c⟩
theorem gp_inside_e (h : gp_at n P xs ys) (hy : gp_PY n P) : gp_I (((gp_sm (gp_sa n P) n).natAbs : Int) - gp_sm (gp_ep n P) n + 2) / 2 = gp_I (gp_sm (gp_cnt n P 1) 256) := by
  have n3 := hy.1
  have ar := gp_area (gp_pe_Poly h hy) (gp_pe_Grid h (show 0 < n by omega))
  have nn := gp_cI_nn (P := gp_pe n P) (n := n)
  have ub : gp_cI (gp_pe n P) n ≤ 256 := by
    have : ∀ m f, (∀ x, f x ≤ (1 : Int)) → gp_sm f m ≤ m := by
      intro m f hf
      induction m with
      | zero => rw [gp_sm_0]; omega
      | succ m ih => rw [gp_sm_s]; have := hf m; omega
    have r : ∀ y, gp_sm (fun x => gp_inE (gp_pe n P) n (gp_nn x y)) 16 ≤ 16 := fun y => this 16 _ fun x => by unfold gp_inE; split <;> omega
    have : ∀ m, gp_sm (fun y => gp_sm (fun x => gp_inE (gp_pe n P) n (gp_nn x y)) 16) m ≤ 16 * m := by
      intro m
      induction m with
      | zero => rw [gp_sm_0]; omega
      | succ m ih => rw [gp_sm_s]; have := r m; omega
    exact this 16
  rw [gp_ep_e h hy, (gp_cnt_e h hy).1, gp_sa_e (by omega)]
  have e : ((gp_sA (gp_pe n P) n).natAbs : Int) - gp_cB (gp_pe n P) n + 2 = 2 * gp_cI (gp_pe n P) n := by omega
  rw [e]
  obtain ⟨c, hc⟩ : ∃ c : Nat, gp_cI (gp_pe n P) n = c := ⟨(gp_cI (gp_pe n P) n).toNat, by omega⟩
  rw [hc]
  have : (2 : Int) * (c : Int) = ((2 * c : Nat) : Int) := by omega
  rw [this, ← gp_nI, ← gp_nI, show (2 : Int32) = nI 2 from rfl, pk_div (by omega) (by omega) (by omega)]
  exact congrArg nI (by omega)
theorem gp_area_e (h : gp_at n P xs ys) (hy : gp_PY n P) : ((gp_sm (gp_sa n P) n).natAbs : Int) = 2 * gp_sm (gp_cnt n P 1) 256 + gp_sm (gp_cnt n P 0) 256 - 2 := by
  have n3 := hy.1
  have ar := gp_area (gp_pe_Poly h hy) (gp_pe_Grid h (show 0 < n by omega))
  rw [(gp_cnt_e h hy).1, (gp_cnt_e h hy).2, gp_sa_e (by omega)]
  omega
end
end
section
/-! what is owed -/
/-- both hold the same corners, all on the grid -/
def i_Rel (_ : Nat) (u : SX) (v : SY) : Prop := ∃ (n : Nat) (P : Nat → Int × Int), u.1 = nI n ∧ v.1 = nI n ∧ gp_at n P u.2.2.1 u.2.2.2.1 ∧ gp_at n P v.2.2.1 v.2.2.2.1
theorem i_up {k : Nat} {u : SX} {v : SY} (h : i_Rel k u v) : i_Rel (k + 3) u v := h
theorem gp_el {k : Nat} {R : SX → SY → Prop} (h : ∀ (n : Nat) (P : Nat → Int × Int) (fw : Int32) (xs ys ln wy od wr : Nat → Int32) (pc : Int32) (xs2 ys2 kx ky pr cn : Nat → Int32), gp_at n P xs ys → gp_at n P xs2 ys2 →
    R (nI n, fw, xs, ys, ln, wy, od, wr) (nI n, pc, xs2, ys2, kx, ky, pr, cn)) {u : SX} {v : SY} (I : i_Rel k u v) : R u v := by
  obtain ⟨fc, fw, xs, ys, ln, wy, od, wr⟩ := u
  obtain ⟨gc, pc, xs2, ys2, kx, ky, pr, cn⟩ := v
  obtain ⟨n, P, e1, e2, hx, hy⟩ := I
  dsimp only at e1 e2 hx hy
  subst e1
  subst e2
  exact h n P fw xs ys ln wy od wr pc xs2 ys2 kx ky pr cn hx hy
theorem gp_mk {k n : Nat} {P : Nat → Int × Int} {fw pc : Int32} {xs ys ln wy od wr xs2 ys2 kx ky pr cn : Nat → Int32} (hx : gp_at n P xs ys) (hy : gp_at n P xs2 ys2) :
    i_Rel k (nI n, fw, xs, ys, ln, wy, od, wr) (nI n, pc, xs2, ys2, kx, ky, pr, cn) := ⟨n, P, rfl, rfl, hx, hy⟩
theorem gp_at_0 (P : Nat → Int × Int) (xs ys : Nat → Int32) : gp_at 0 P xs ys := ⟨by omega, fun i hi => by omega⟩
theorem gp_nIi {a b : Nat} (ha : a < 1000) (hb : b < 1000) (e : nI a = nI b) : a = b := (nI_eq (by omega) (by omega)).mp e
theorem i_vc0 : wpX_init (fun u => wpY_init (fun v => i_Rel 0 u v)) := by
  unfold wpX_init wpY_init
  exact ⟨0, fun _ => (0, 0), rfl, rfl, gp_at_0 _ _ _, gp_at_0 _ _ _⟩
theorem i_vc_corner {k : Nat} {u : SX} {v : SY} (I : i_Rel k u v) (hk : k + 3 ≤ 1536) (v1 : Int32) : wpX_corner (fun r u' => wpY_corner (fun r' v' => r' = r ∧ i_Rel (k + 3) u' v') v v1) u v1 := by
  refine gp_el (R := fun u v => wpX_corner (fun r u' => wpY_corner (fun r' v' => r' = r ∧ i_Rel (k + 3) u' v') v v1) u v1) ?_ I
  intro n P fw xs ys ln wy od wr pc xs2 ys2 kx ky pr cn hx hy
  refine gx_corner hx v1 (fun c => ?_) (fun c d => ?_) (fun q hq e d xs' ys' g => ?_)
  · exact gy_corner hy v1 (fun _ => ⟨rfl, gp_mk hx hy⟩) (fun ⟨q, hq, e⟩ _ => absurd e (c q hq)) (fun q hq e => absurd e (c q hq))
  · obtain ⟨q, hq, e⟩ := c
    exact gy_corner hy v1 (fun c => absurd e (c q hq)) (fun _ _ => ⟨rfl, gp_mk hx hy⟩) (fun _ _ _ z => absurd z (by omega))
  · refine gy_corner hy v1 (fun c => absurd e (c q hq)) (fun _ z => absurd z (by omega)) (fun q' hq' e' _ xs2' ys2' g' => ⟨rfl, ?_⟩)
    have := gp_nIi (by omega) (by omega) (e.symm.trans e')
    subst this
    exact gp_mk g g'
theorem i_vc_insert {k : Nat} {u : SX} {v : SY} (I : i_Rel k u v) (hk : k + 3 ≤ 1536) (v1 : Int32) (v2 : Int32) : wpX_insert (fun r u' => wpY_insert (fun r' v' => r' = r ∧ i_Rel (k + 3) u' v') v v1 v2) u v1 v2 := by
  refine gp_el (R := fun u v => wpX_insert (fun r u' => wpY_insert (fun r' v' => r' = r ∧ i_Rel (k + 3) u' v') v v1 v2) u v1 v2) ?_ I
  intro n P fw xs ys ln wy od wr pc xs2 ys2 kx ky pr cn hx hy
  have h10 := hx.1
  refine gx_insert hx v1 v2 (fun c => ?_) (fun c d f => ?_) (fun q hq e i hi ei d xs' ys' g => ?_)
  · refine gy_insert hy v1 v2 (fun _ => ⟨rfl, gp_mk hx hy⟩) (fun ⟨q, hq, e⟩ ⟨i, hi, ei⟩ _ => ?_) (fun q hq e i hi ei => ?_)
    · exact c.elim (fun c => absurd e (c q hq)) (fun c => absurd ei (c i hi))
    · exact c.elim (fun c => absurd e (c q hq)) (fun c => absurd ei (c i hi))
  · obtain ⟨q, hq, e⟩ := c
    obtain ⟨i, hi, ei⟩ := d
    exact gy_insert hy v1 v2 (fun c => c.elim (fun c => absurd e (c q hq)) (fun c => absurd ei (c i hi))) (fun _ _ _ => ⟨rfl, gp_mk hx hy⟩) (fun _ _ _ _ _ _ z => absurd z (by omega))
  · refine gy_insert hy v1 v2 (fun c => c.elim (fun c => absurd e (c q hq)) (fun c => absurd ei (c i hi))) (fun _ _ z => absurd z (by omega)) (fun q' hq' e' i' hi' ei' _ xs2' ys2' g' => ⟨rfl, ?_⟩)
    have a := gp_nIi (by omega) (by omega) (e.symm.trans e')
    have b := gp_nIi (by omega) (by omega) (ei.symm.trans ei')
    subst a
    subst b
    exact gp_mk g g'
theorem i_vc_remove {k : Nat} {u : SX} {v : SY} (I : i_Rel k u v) (hk : k + 3 ≤ 1536) (v1 : Int32) : wpX_remove (fun r u' => wpY_remove (fun r' v' => r' = r ∧ i_Rel (k + 3) u' v') v v1) u v1 := by
  refine gp_el (R := fun u v => wpX_remove (fun r u' => wpY_remove (fun r' v' => r' = r ∧ i_Rel (k + 3) u' v') v v1) u v1) ?_ I
  intro n P fw xs ys ln wy od wr pc xs2 ys2 kx ky pr cn hx hy
  have h10 := hx.1
  refine gx_remove hx v1 (fun c => ?_) (fun i hi e xs' ys' g => ?_)
  · exact gy_remove hy v1 (fun _ => ⟨rfl, gp_mk hx hy⟩) (fun i hi e => absurd e (c i hi))
  · refine gy_remove hy v1 (fun c => absurd e (c i hi)) (fun i' hi' e' xs2' ys2' g' => ?_)
    have := gp_nIi (by omega) (by omega) (e.symm.trans e')
    subst this
    exact ⟨rfl, gp_mk g g'⟩
theorem i_vc_clear {k : Nat} {u : SX} {v : SY} (I : i_Rel k u v) (hk : k + 3 ≤ 1536) : wpX_clear (fun u' => wpY_clear (fun v' => i_Rel (k + 3) u' v') v) u := by
  refine gp_el (R := fun u v => wpX_clear (fun u' => wpY_clear (fun v' => i_Rel (k + 3) u' v') v) u) ?_ I
  intro n P fw xs ys ln wy od wr pc xs2 ys2 kx ky pr cn hx hy
  unfold wpX_clear wpY_clear
  exact ⟨0, P, rfl, rfl, gp_at_0 _ _ _, gp_at_0 _ _ _⟩
theorem i_vc_corners {k : Nat} {u : SX} {v : SY} (I : i_Rel k u v) (hk : k + 3 ≤ 1536) : wpX_corners (fun r => wpY_corners (fun r' => r' = r ∧ i_Rel (k + 3) u v) v) u := by
  refine gp_el (R := fun u v => wpX_corners (fun r => wpY_corners (fun r' => r' = r ∧ i_Rel (k + 3) u v) v) u) ?_ I
  intro n P fw xs ys ln wy od wr pc xs2 ys2 kx ky pr cn hx hy
  unfold wpX_corners wpY_corners
  exact ⟨rfl, gp_mk hx hy⟩
theorem i_vc_move {k : Nat} {u : SX} {v : SY} (I : i_Rel k u v) (hk : k + 3 ≤ 1536) (v1 : Int32) (v2 : Int32) : wpX_move (fun r u' => wpY_move (fun r' v' => r' = r ∧ i_Rel (k + 3) u' v') v v1 v2) u v1 v2 := by
  refine gp_el (R := fun u v => wpX_move (fun r u' => wpY_move (fun r' v' => r' = r ∧ i_Rel (k + 3) u' v') v v1 v2) u v1 v2) ?_ I
  intro n P fw xs ys ln wy od wr pc xs2 ys2 kx ky pr cn hx hy
  obtain ⟨e1, r1⟩ := gp_tI v1
  obtain ⟨e2, r2⟩ := gp_tI v2
  rw [e1, e2]
  refine gx_move hx _ _ r1 r2 (fun c => ?_) (fun c xs' ys' g => ?_)
  · exact gy_move hy _ _ r1 r2 (fun _ => ⟨rfl, gp_mk hx hy⟩) (fun d => absurd d c)
  · exact gy_move hy _ _ r1 r2 (fun d => absurd c d) (fun _ xs2' ys2' g' => ⟨rfl, gp_mk g g'⟩)
theorem i_vc_reverse {k : Nat} {u : SX} {v : SY} (I : i_Rel k u v) (hk : k + 3 ≤ 1536) : wpX_reverse (fun r u' => wpY_reverse (fun r' v' => r' = r ∧ i_Rel (k + 3) u' v') v) u := by
  refine gp_el (R := fun u v => wpX_reverse (fun r u' => wpY_reverse (fun r' v' => r' = r ∧ i_Rel (k + 3) u' v') v) u) ?_ I
  intro n P fw xs ys ln wy od wr pc xs2 ys2 kx ky pr cn hx hy
  exact gx_reverse hx fun xs' ys' g => gy_reverse hy fun xs2' ys2' kx' ky' g' => ⟨rfl, gp_mk g g'⟩
theorem i_vc_keep {k : Nat} {u : SX} {v : SY} (I : i_Rel k u v) (hk : k + 3 ≤ 1536) (v1 : Int32) (v2 : Int32) : wpX_keep (fun r u' => wpY_keep (fun r' v' => r' = r ∧ i_Rel (k + 3) u' v') v v1 v2) u v1 v2 := by
  refine gp_el (R := fun u v => wpX_keep (fun r u' => wpY_keep (fun r' v' => r' = r ∧ i_Rel (k + 3) u' v') v v1 v2) u v1 v2) ?_ I
  intro n P fw xs ys ln wy od wr pc xs2 ys2 kx ky pr cn hx hy
  have h10 := hx.1
  refine gx_keep hx v1 v2 (fun c => ?_) (fun p q hp hq e1 e2 cc xs' ys' g => ?_)
  · exact gy_keep hy v1 v2 (fun _ => ⟨rfl, gp_mk hx hy⟩) (fun p q hp hq e1 e2 cc => absurd ((gp_C2_e hx v1 v2).mpr ⟨p, q, hp, hq, e1, e2, cc⟩) c)
  · refine gy_keep hy v1 v2 (fun d => absurd ((gp_C2_e hx v1 v2).mp ⟨p, q, hp, hq, e1, e2, cc⟩) d) (fun p' q' hp' hq' e1' e2' cc' xs2' ys2' kx' ky' g' => ?_)
    have a := gp_nIi (by omega) (by omega) (e1.symm.trans e1')
    have b := gp_nIi (by omega) (by omega) (e2.symm.trans e2')
    subst a
    subst b
    exact ⟨rfl, gp_mk g g'⟩
theorem i_vc_proper {k : Nat} {u : SX} {v : SY} (I : i_Rel k u v) (hk : k + 3 ≤ 1536) : wpX_proper (fun r => wpY_proper (fun r' => r' = r ∧ i_Rel (k + 3) u v) v) u := by
  refine gp_el (R := fun u v => wpX_proper (fun r => wpY_proper (fun r' => r' = r ∧ i_Rel (k + 3) u v) v) u) ?_ I
  intro n P fw xs ys ln wy od wr pc xs2 ys2 kx ky pr cn hx hy
  exact gx_proper hx (gy_proper hy ⟨(gp_b_c (gp_PXY hx)).symm, gp_mk hx hy⟩)
theorem i_vc_area {k : Nat} {u : SX} {v : SY} (I : i_Rel k u v) (hk : k + 3 ≤ 1536) : wpX_area (fun r => wpY_area (fun r' => r' = r ∧ i_Rel (k + 3) u v) v) u := by
  refine gp_el (R := fun u v => wpX_area (fun r => wpY_area (fun r' => r' = r ∧ i_Rel (k + 3) u v) v) u) ?_ I
  intro n P fw xs ys ln wy od wr pc xs2 ys2 kx ky pr cn hx hy
  refine gx_area hx (fun c => ?_) (fun c => ?_)
  · exact gy_area hy (fun _ => ⟨rfl, gp_mk hx hy⟩) (fun d => absurd ((gp_PXY hx).mpr d) c)
  · exact gy_area hy (fun d => absurd ((gp_PXY hx).mp c) d) (fun d => ⟨congrArg gp_I (gp_area_e hx d).symm, gp_mk hx hy⟩)
theorem i_vc_left {k : Nat} {u : SX} {v : SY} (I : i_Rel k u v) (hk : k + 3 ≤ 1536) : wpX_left (fun r => wpY_left (fun r' => r' = r ∧ i_Rel (k + 3) u v) v) u := by
  refine gp_el (R := fun u v => wpX_left (fun r => wpY_left (fun r' => r' = r ∧ i_Rel (k + 3) u v) v) u) ?_ I
  intro n P fw xs ys ln wy od wr pc xs2 ys2 kx ky pr cn hx hy
  refine gx_left hx (gy_left hy (fun d => ⟨?_, gp_mk hx hy⟩) (fun d l hl hm => ⟨gp_b_c ?_, gp_mk hx hy⟩))
  · rw [gp_b_f (fun z => d ((gp_PXY hx).mp z.1))]
  · rw [← gp_left_e hx d hl hm]
    exact ⟨fun z => ⟨(gp_PXY hx).mpr d, z⟩, fun z => z.2⟩
theorem i_vc_edge {k : Nat} {u : SX} {v : SY} (I : i_Rel k u v) (hk : k + 3 ≤ 1536) : wpX_edge (fun r => wpY_edge (fun r' => r' = r ∧ i_Rel (k + 3) u v) v) u := by
  refine gp_el (R := fun u v => wpX_edge (fun r => wpY_edge (fun r' => r' = r ∧ i_Rel (k + 3) u v) v) u) ?_ I
  intro n P fw xs ys ln wy od wr pc xs2 ys2 kx ky pr cn hx hy
  refine gx_edge hx (fun c => ?_) (fun c => ?_)
  · exact gy_edge hy (fun _ => ⟨rfl, gp_mk hx hy⟩) (fun d => absurd ((gp_PXY hx).mpr d) c)
  · exact gy_edge hy (fun d => absurd ((gp_PXY hx).mp c) d) (fun d => ⟨congrArg gp_I ((gp_cnt_e hx d).2.trans (gp_ep_e hx d).symm), gp_mk hx hy⟩)
theorem i_vc_inside {k : Nat} {u : SX} {v : SY} (I : i_Rel k u v) (hk : k + 3 ≤ 1536) : wpX_inside (fun r => wpY_inside (fun r' => r' = r ∧ i_Rel (k + 3) u v) v) u := by
  refine gp_el (R := fun u v => wpX_inside (fun r => wpY_inside (fun r' => r' = r ∧ i_Rel (k + 3) u v) v) u) ?_ I
  intro n P fw xs ys ln wy od wr pc xs2 ys2 kx ky pr cn hx hy
  refine gx_inside hx (fun c => ?_) (fun c => ?_)
  · exact gy_inside hy (fun _ => ⟨rfl, gp_mk hx hy⟩) (fun d => absurd ((gp_PXY hx).mpr d) c)
  · exact gy_inside hy (fun d => absurd ((gp_PXY hx).mp c) d) (fun d => ⟨(gp_inside_e hx d).symm, gp_mk hx hy⟩)
theorem i_vc_where {k : Nat} {u : SX} {v : SY} (I : i_Rel k u v) (hk : k + 3 ≤ 1536) (v1 : Int32) : wpX_where (fun r => wpY_where (fun r' => r' = r ∧ i_Rel (k + 3) u v) v v1) u v1 := by
  refine gp_el (R := fun u v => wpX_where (fun r => wpY_where (fun r' => r' = r ∧ i_Rel (k + 3) u v) v v1) u v1) ?_ I
  intro n P fw xs ys ln wy od wr pc xs2 ys2 kx ky pr cn hx hy
  refine gx_where hx v1 (fun c => ?_) (fun c q hq e => ?_)
  · refine gy_where hy v1 (fun _ => ⟨rfl, gp_mk hx hy⟩) (fun d q hq e => ?_)
    exact c.elim (fun c => absurd ((gp_PXY hx).mpr d) c) (fun c => absurd e (c q hq))
  · refine gy_where hy v1 (fun d => ?_) (fun d q' hq' e' => ?_)
    · exact d.elim (fun d => absurd ((gp_PXY hx).mp c) d) (fun d => absurd e (d q hq))
    · have := gp_nIi (by omega) (by omega) (e.symm.trans e')
      subst this
      exact ⟨(gp_wh_e hx d hq).symm, gp_mk hx hy⟩
theorem i_vc_convex {k : Nat} {u : SX} {v : SY} (I : i_Rel k u v) (hk : k + 3 ≤ 1536) : wpX_convex (fun r => wpY_convex (fun r' => r' = r ∧ i_Rel (k + 3) u v) v) u := by
  refine gp_el (R := fun u v => wpX_convex (fun r => wpY_convex (fun r' => r' = r ∧ i_Rel (k + 3) u v) v) u) ?_ I
  intro n P fw xs ys ln wy od wr pc xs2 ys2 kx ky pr cn hx hy
  exact gx_convex hx (gy_convex hy ⟨(gp_b_c (gp_cv_e hx)).symm, gp_mk hx hy⟩)
theorem i_vc_cut {k : Nat} {u : SX} {v : SY} (I : i_Rel k u v) (hk : k + 3 ≤ 1536) (v1 : Int32) (v2 : Int32) : wpX_cut (fun r => wpY_cut (fun r' => r' = r ∧ i_Rel (k + 3) u v) v v1 v2) u v1 v2 := by
  refine gp_el (R := fun u v => wpX_cut (fun r => wpY_cut (fun r' => r' = r ∧ i_Rel (k + 3) u v) v v1 v2) u v1 v2) ?_ I
  intro n P fw xs ys ln wy od wr pc xs2 ys2 kx ky pr cn hx hy
  exact gx_cut hx v1 v2 (gy_cut hy v1 v2 ⟨(gp_b_c (gp_C2_e hx v1 v2)).symm, gp_mk hx hy⟩)
theorem i_vc_cuts {k : Nat} {u : SX} {v : SY} (I : i_Rel k u v) (hk : k + 3 ≤ 1536) : wpX_cuts (fun r u' => wpY_cuts (fun r' v' => r' = r ∧ i_Rel (k + 3) u' v') v) u := by
  refine gp_el (R := fun u v => wpX_cuts (fun r u' => wpY_cuts (fun r' v' => r' = r ∧ i_Rel (k + 3) u' v') v) u) ?_ I
  intro n P fw xs ys ln wy od wr pc xs2 ys2 kx ky pr cn hx hy
  refine gx_cuts hx (fun c => ?_) (fun c ln' => ?_)
  · exact gy_cuts hy (fun _ => ⟨rfl, gp_mk hx hy⟩) (fun d => absurd ((gp_PXY hx).mpr d) c)
  · exact gy_cuts hy (fun d => absurd ((gp_PXY hx).mp c) d) (fun d pr' pc' => ⟨congrArg gp_I (gp_pc_e hx d).symm, gp_mk hx hy⟩)
theorem i_vc_tilings {k : Nat} {u : SX} {v : SY} (I : i_Rel k u v) (hk : k + 3 ≤ 1536) : wpX_tilings (fun r u' => wpY_tilings (fun r' v' => r' = r ∧ i_Rel (k + 3) u' v') v) u := by
  refine gp_el (R := fun u v => wpX_tilings (fun r u' => wpY_tilings (fun r' v' => r' = r ∧ i_Rel (k + 3) u' v') v) u) ?_ I
  intro n P fw xs ys ln wy od wr pc xs2 ys2 kx ky pr cn hx hy
  refine gx_tilings hx (fun c => ?_) (fun c ln' wy' => ?_)
  · exact gy_tilings hy (fun _ => ⟨rfl, gp_mk hx hy⟩) (fun d => absurd ((gp_PXY hx).mpr d) c)
  · exact gy_tilings hy (fun d => absurd ((gp_PXY hx).mp c) d) (fun d l pc' pr' cn' hC => ⟨congrArg nI (gp_tile_e hx d hC), gp_mk hx hy⟩)
theorem i_vc_hull {k : Nat} {u : SX} {v : SY} (I : i_Rel k u v) (hk : k + 3 ≤ 1536) : wpX_hull (fun r u' => wpY_hull (fun r' => r' = r ∧ i_Rel (k + 3) u' v) v) u := by
  refine gp_el (R := fun u v => wpX_hull (fun r u' => wpY_hull (fun r' => r' = r ∧ i_Rel (k + 3) u' v) v) u) ?_ I
  intro n P fw xs ys ln wy od wr pc xs2 ys2 kx ky pr cn hx hy
  refine gx_hull hx (fun c => ?_) (fun od' wr' M S c m20 rg hf => ?_)
  · have z := gp_hsd_n (P := P) c (fun _ _ => 1)
    exact gy_hull hy (by rw [z]; exact gp_rg_s (by omega)) (fun _ => ⟨rfl, gp_mk hx hy⟩) (fun d => absurd z d)
  · rcases hf with ⟨_, z, s⟩ | ⟨s, _, z, m0⟩
    · exact gy_hull hy (by rw [z]; exact gp_rg_s (by omega)) (fun _ => ⟨by rw [if_neg (by omega)], gp_mk hx hy⟩) (fun d => absurd z d)
    · exact gy_hull hy (by rw [z]; exact gp_rg_s (by omega)) (fun d => by omega) (fun _ => ⟨by rw [if_pos s, z], gp_mk hx hy⟩)
theorem i_vc_hullArea {k : Nat} {u : SX} {v : SY} (I : i_Rel k u v) (hk : k + 3 ≤ 1536) : wpX_hullArea (fun r u' => wpY_hullArea (fun r' => r' = r ∧ i_Rel (k + 3) u' v) v) u := by
  refine gp_el (R := fun u v => wpX_hullArea (fun r u' => wpY_hullArea (fun r' => r' = r ∧ i_Rel (k + 3) u' v) v) u) ?_ I
  intro n P fw xs ys ln wy od wr pc xs2 ys2 kx ky pr cn hx hy
  refine gx_hullArea hx (fun c => ?_) (fun od' wr' M S c m20 rg hf => ?_)
  · have z := gp_hsd_n (P := P) c gp_cr
    exact gy_hullArea hy (by rw [z]; exact gp_rg_s (by omega)) (fun _ => ⟨rfl, gp_mk hx hy⟩) (fun d => absurd z d)
  · rcases hf with ⟨z, _, s⟩ | ⟨s, z, _, m0⟩
    · exact gy_hullArea hy (by rw [z]; exact gp_rg_s (by omega)) (fun _ => ⟨by rw [if_neg (by omega)], gp_mk hx hy⟩) (fun d => absurd z d)
    · exact gy_hullArea hy (by rw [z]; exact rg) (fun d => by omega) (fun _ => ⟨by rw [if_pos s, z], gp_mk hx hy⟩)
theorem i_vc_widest {k : Nat} {u : SX} {v : SY} (I : i_Rel k u v) (hk : k + 3 ≤ 1536) : wpX_widest (fun r => wpY_widest (fun r' => r' = r ∧ i_Rel (k + 3) u v) v) u := by
  refine gp_el (R := fun u v => wpX_widest (fun r => wpY_widest (fun r' => r' = r ∧ i_Rel (k + 3) u v) v) u) ?_ I
  intro n P fw xs ys ln wy od wr pc xs2 ys2 kx ky pr cn hx hy
  refine gx_widest hx fun a ha => gy_widest hy fun b hb => ⟨congrArg gp_I ?_, gp_mk hx hy⟩
  exact (gp_mx_uni hx (fun a b s => by omega) (fun a b s => by omega) (fun a b => Iff.rfl) ha hb).symm
end
