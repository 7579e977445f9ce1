section
/-! Part 01: the pure picture: the 53 shapes, sums, polynomials in three letters as lists, the complete sums, a shape's value -/
/-- the codes of the 53 shapes, in the order in which the constructor finds them (printed by tables.py) -/
def sr_T : List Nat := [0, 1, 2, 3, 4, 5, 6, 7, 8, 9, 11, 12, 13, 14, 15, 16, 17, 18, 22, 23, 24, 25, 26, 27, 33, 34, 35, 36, 44, 45, 111, 112, 113, 114, 115, 116, 117, 122, 123, 124, 125, 126, 133, 134, 135, 144, 222, 223, 224, 225, 233, 234, 333]
def sr_t (j : Nat) : Nat := sr_T.getD j 0
def sr_A (j : Nat) : Nat := sr_t j % 10
def sr_B (j : Nat) : Nat := sr_t j / 10 % 10
def sr_C (j : Nat) : Nat := sr_t j / 100
def sr_z (j : Nat) : Nat := sr_A j + sr_B j + sr_C j
theorem sr_tab : ∀ j, j < 53 → sr_B j ≤ sr_A j ∧ sr_C j ≤ sr_B j ∧ sr_z j ≤ 9 ∧ sr_t j < 1000 := by decide +kernel
/-! sums -/
def sr_sum (f : Nat → Int32) : Nat → Int32
  | 0 => 0
  | n + 1 => sr_sum f n + f n
theorem sr_sum_congr {f g : Nat → Int32} {n : Nat} (h : ∀ j, j < n → f j = g j) : sr_sum f n = sr_sum g n := by
  induction n with
  | zero => rfl
  | succ n ih => rw [sr_sum, sr_sum, ih (fun j hj => h j (by omega)), h n (by omega)]
theorem sr_sum_add (f g : Nat → Int32) (n : Nat) : sr_sum (fun j => f j + g j) n = sr_sum f n + sr_sum g n := by
  induction n with
  | zero => rfl
  | succ n ih => simp only [sr_sum, ih]; grind
theorem sr_sum_mul (c : Int32) (f : Nat → Int32) (n : Nat) : sr_sum (fun j => c * f j) n = c * sr_sum f n := by
  induction n with
  | zero => simp only [sr_sum]; grind
  | succ n ih => simp only [sr_sum, ih]; grind
theorem sr_sum_zero {f : Nat → Int32} {n : Nat} (h : ∀ j, j < n → f j = 0) : sr_sum f n = 0 := by
  induction n with
  | zero => rfl
  | succ n ih => rw [sr_sum, ih (fun j hj => h j (by omega)), h n (by omega)]; rfl
theorem sr_sum_delta {n p : Nat} (hp : p < n) (v : Nat → Int32) : sr_sum (fun j => if j = p then v j else 0) n = v p := by
  induction n with
  | zero => omega
  | succ n ih =>
    rw [sr_sum]
    by_cases e : p = n
    · subst e
      rw [sr_sum_zero (fun j hj => if_neg (by omega)), if_pos rfl]
      grind
    · rw [ih (by omega), if_neg (by omega)]
      grind
/-! powers -/
def sr_pw (x : Int32) : Nat → Int32
  | 0 => 1
  | n + 1 => sr_pw x n * x
theorem sr_pw_add (x : Int32) (m n : Nat) : sr_pw x (m + n) = sr_pw x m * sr_pw x n := by
  induction n with
  | zero => rw [Nat.add_zero, sr_pw]; grind
  | succ n ih => rw [← Nat.add_assoc, sr_pw, sr_pw, ih]; grind
/-! polynomials in three letters: a list of (coefficient, exponents) -/
def sr_ev (x y z : Int32) : List (Int × Nat × Nat × Nat) → Int32
  | [] => 0
  | (c, i, j, k) :: l => Int32.ofInt c * (sr_pw x i * sr_pw y j * sr_pw z k) + sr_ev x y z l
def sr_ins (c : Int) (i j k : Nat) : List (Int × Nat × Nat × Nat) → List (Int × Nat × Nat × Nat)
  | [] => [(c, i, j, k)]
  | (c', i', j', k') :: l => bif (Nat.beq i i' && (Nat.beq j j' && Nat.beq k k')) then (c + c', i', j', k') :: l else (c', i', j', k') :: sr_ins c i j k l
theorem sr_ev_ins (x y z : Int32) (c : Int) (i j k : Nat) (l : List (Int × Nat × Nat × Nat)) : sr_ev x y z (sr_ins c i j k l) = Int32.ofInt c * (sr_pw x i * sr_pw y j * sr_pw z k) + sr_ev x y z l := by
  induction l with
  | nil => rfl
  | cons a l ih =>
    obtain ⟨c', i', j', k'⟩ := a
    rw [sr_ins]
    cases hb : (Nat.beq i i' && (Nat.beq j j' && Nat.beq k k')) with
    | false =>
      rw [cond_false, sr_ev, ih, sr_ev]
      grind
    | true =>
      rw [Bool.and_eq_true, Bool.and_eq_true] at hb
      have h1 := Nat.eq_of_beq_eq_true hb.1
      have h2 := Nat.eq_of_beq_eq_true hb.2.1
      have h3 := Nat.eq_of_beq_eq_true hb.2.2
      subst h1 h2 h3
      rw [cond_true, sr_ev, sr_ev, Int32.ofInt_add]
      grind
/-- c x^i y^j z^k times the first list, and the second one -/
def sr_mma (c : Int) (i j k : Nat) : List (Int × Nat × Nat × Nat) → List (Int × Nat × Nat × Nat) → List (Int × Nat × Nat × Nat)
  | [], q => q
  | (c', i', j', k') :: l, q => sr_ins (c * c') (i + i') (j + j') (k + k') (sr_mma c i j k l q)
theorem sr_ev_mma (x y z : Int32) (c : Int) (i j k : Nat) (l q : List (Int × Nat × Nat × Nat)) : sr_ev x y z (sr_mma c i j k l q) = Int32.ofInt c * (sr_pw x i * sr_pw y j * sr_pw z k) * sr_ev x y z l + sr_ev x y z q := by
  induction l with
  | nil => rw [sr_mma, sr_ev]; grind
  | cons a l ih =>
    obtain ⟨c', i', j', k'⟩ := a
    rw [sr_mma, sr_ev_ins, ih, sr_ev, Int32.ofInt_mul, sr_pw_add, sr_pw_add, sr_pw_add]
    grind
def sr_mul : List (Int × Nat × Nat × Nat) → List (Int × Nat × Nat × Nat) → List (Int × Nat × Nat × Nat)
  | [], _ => []
  | (c, i, j, k) :: l, q => sr_mma c i j k q (sr_mul l q)
theorem sr_ev_mul (x y z : Int32) (l q : List (Int × Nat × Nat × Nat)) : sr_ev x y z (sr_mul l q) = sr_ev x y z l * sr_ev x y z q := by
  induction l with
  | nil => rw [sr_mul, sr_ev]; grind
  | cons a l ih =>
    obtain ⟨c, i, j, k⟩ := a
    rw [sr_mul, sr_ev_mma, ih, sr_ev]
    grind
theorem sr_one : Int32.ofInt 1 = 1 := by decide
theorem sr_mone : Int32.ofInt (-1) = -1 := by decide
def sr_add (p q : List (Int × Nat × Nat × Nat)) : List (Int × Nat × Nat × Nat) := sr_mma 1 0 0 0 p q
def sr_sub (p q : List (Int × Nat × Nat × Nat)) : List (Int × Nat × Nat × Nat) := sr_mma (-1) 0 0 0 q p
theorem sr_ev_add (x y z : Int32) (p q : List (Int × Nat × Nat × Nat)) : sr_ev x y z (sr_add p q) = sr_ev x y z p + sr_ev x y z q := by
  rw [sr_add, sr_ev_mma, sr_one, sr_pw, sr_pw, sr_pw]
  grind
theorem sr_ev_sub (x y z : Int32) (p q : List (Int × Nat × Nat × Nat)) : sr_ev x y z (sr_sub p q) = sr_ev x y z p - sr_ev x y z q := by
  rw [sr_sub, sr_ev_mma, sr_mone, sr_pw, sr_pw, sr_pw]
  grind
def sr_nul : List (Int × Nat × Nat × Nat) → Bool
  | [] => true
  | (c, _, _, _) :: l => (c == 0) && sr_nul l
theorem sr_ev_nul (x y z : Int32) (l : List (Int × Nat × Nat × Nat)) (h : sr_nul l = true) : sr_ev x y z l = 0 := by
  induction l with
  | nil => rfl
  | cons a l ih =>
    obtain ⟨c, i, j, k⟩ := a
    rw [sr_nul, Bool.and_eq_true] at h
    have hc : c = 0 := eq_of_beq h.1
    have h0 : Int32.ofInt 0 = 0 := by decide
    rw [sr_ev, ih h.2, hc, h0]
    grind
theorem sr_ev_eq (x y z : Int32) {p q : List (Int × Nat × Nat × Nat)} (h : sr_nul (sr_sub p q) = true) : sr_ev x y z p = sr_ev x y z q := by
  have e := sr_ev_nul x y z _ h
  rw [sr_ev_sub] at e
  grind
def sr_psum (f : Nat → List (Int × Nat × Nat × Nat)) : Nat → List (Int × Nat × Nat × Nat)
  | 0 => []
  | n + 1 => sr_add (f n) (sr_psum f n)
theorem sr_ev_psum (x y z : Int32) (f : Nat → List (Int × Nat × Nat × Nat)) (n : Nat) : sr_ev x y z (sr_psum f n) = sr_sum (fun i => sr_ev x y z (f i)) n := by
  induction n with
  | zero => rfl
  | succ n ih => rw [sr_psum, sr_ev_add, ih, sr_sum]; grind
/-! the complete sums, as findComplete makes them -/
def sr_Q (x y : Int32) : Nat → Int32
  | 0 => 1
  | d + 1 => sr_pw x (d + 1) + y * sr_Q x y d
def sr_R (x y z : Int32) : Nat → Int32
  | 0 => 1
  | d + 1 => sr_Q x y (d + 1) + z * sr_R x y z d
/-- completeOf, the number below raised by k: h (d - k) -/
def sr_h (x y z : Int32) (d k : Nat) : Int32 := if d < k then 0 else sr_R x y z (d - k)
/-- valueOf -/
def sr_det (a0 a1 a2 b0 b1 b2 c0 c1 c2 : Int32) : Int32 := ((a0 * ((b1 * c2) - (b2 * c1))) - (a1 * ((b0 * c2) - (b2 * c0)))) + (a2 * ((b0 * c1) - (b1 * c0)))
def sr_S (x y z : Int32) (s : Nat) : Int32 := sr_det (sr_h x y z (sr_A s) 0) (sr_h x y z (sr_A s + 1) 0) (sr_h x y z (sr_A s + 2) 0) (sr_h x y z (sr_B s) 1) (sr_h x y z (sr_B s) 0) (sr_h x y z (sr_B s + 1) 0) (sr_h x y z (sr_C s) 2) (sr_h x y z (sr_C s) 1) (sr_h x y z (sr_C s) 0)
/-- the same over lists -/
def sr_ph (H : Nat → List (Int × Nat × Nat × Nat)) (d k : Nat) : List (Int × Nat × Nat × Nat) := bif Nat.blt d k then [] else H (d - k)
def sr_pdet (a0 a1 a2 b0 b1 b2 c0 c1 c2 : List (Int × Nat × Nat × Nat)) : List (Int × Nat × Nat × Nat) := sr_add (sr_sub (sr_mul a0 (sr_sub (sr_mul b1 c2) (sr_mul b2 c1))) (sr_mul a1 (sr_sub (sr_mul b0 c2) (sr_mul b2 c0)))) (sr_mul a2 (sr_sub (sr_mul b0 c1) (sr_mul b1 c0)))
def sr_pS (H : Nat → List (Int × Nat × Nat × Nat)) (s : Nat) : List (Int × Nat × Nat × Nat) := sr_pdet (sr_ph H (sr_A s) 0) (sr_ph H (sr_A s + 1) 0) (sr_ph H (sr_A s + 2) 0) (sr_ph H (sr_B s) 1) (sr_ph H (sr_B s) 0) (sr_ph H (sr_B s + 1) 0) (sr_ph H (sr_C s) 2) (sr_ph H (sr_C s) 1) (sr_ph H (sr_C s) 0)
theorem sr_ev_ph {x y z u v w : Int32} {H : Nat → List (Int × Nat × Nat × Nat)} (hH : ∀ d, d < 12 → sr_ev u v w (H d) = sr_R x y z d) (d k : Nat) (hd : d < 12) : sr_ev u v w (sr_ph H d k) = sr_h x y z d k := by
  rw [sr_ph, sr_h]
  cases hb : Nat.blt d k with
  | true =>
    rw [cond_true, if_pos (by simpa [Nat.blt_eq] using hb)]
    rfl
  | false =>
    have : ¬ d < k := by
      intro h
      rw [← Nat.blt_eq] at h
      rw [h] at hb
      exact Bool.noConfusion hb
    rw [cond_false, if_neg this]
    exact hH _ (by omega)
theorem sr_ev_pS {x y z u v w : Int32} {H : Nat → List (Int × Nat × Nat × Nat)} (hH : ∀ d, d < 12 → sr_ev u v w (H d) = sr_R x y z d) (s : Nat) (hs : s < 53) : sr_ev u v w (sr_pS H s) = sr_S x y z s := by
  obtain ⟨h1, h2, h3, _⟩ := sr_tab s hs
  rw [sr_z] at h3
  have E := sr_ev_ph hH
  rw [sr_pS, sr_pdet, sr_ev_add, sr_ev_sub, sr_ev_mul, sr_ev_mul, sr_ev_mul, sr_ev_sub, sr_ev_sub, sr_ev_sub, sr_ev_mul, sr_ev_mul, sr_ev_mul, sr_ev_mul, sr_ev_mul, sr_ev_mul,
    E _ _ (by omega), E _ _ (by omega), E _ _ (by omega), E _ _ (by omega), E _ _ (by omega), E _ _ (by omega), E _ _ (by omega), E _ _ (by omega), E _ _ (by omega)]
  rfl
end
section
/-! Part 02: a shape's value by the elementary sums; the product of two shapes -/
/-- h_0 .. h_11 and the 53 shapes in e1, e2, e3 (printed by tables.py) -/
def sr_HT : List (List (Int × Nat × Nat × Nat)) := [
  [(1, 0, 0, 0)],
  [(1, 1, 0, 0)],
  [(-1, 0, 1, 0), (1, 2, 0, 0)],
  [(1, 0, 0, 1), (-2, 1, 1, 0), (1, 3, 0, 0)],
  [(1, 0, 2, 0), (2, 1, 0, 1), (-3, 2, 1, 0), (1, 4, 0, 0)],
  [(-2, 0, 1, 1), (3, 1, 2, 0), (3, 2, 0, 1), (-4, 3, 1, 0), (1, 5, 0, 0)],
  [(1, 0, 0, 2), (-1, 0, 3, 0), (-6, 1, 1, 1), (6, 2, 2, 0), (4, 3, 0, 1), (-5, 4, 1, 0), (1, 6, 0, 0)],
  [(3, 0, 2, 1), (3, 1, 0, 2), (-4, 1, 3, 0), (-12, 2, 1, 1), (10, 3, 2, 0), (5, 4, 0, 1), (-6, 5, 1, 0), (1, 7, 0, 0)],
  [(-3, 0, 1, 2), (1, 0, 4, 0), (12, 1, 2, 1), (6, 2, 0, 2), (-10, 2, 3, 0), (-20, 3, 1, 1), (15, 4, 2, 0), (6, 5, 0, 1), (-7, 6, 1, 0), (1, 8, 0, 0)],
  [(1, 0, 0, 3), (-4, 0, 3, 1), (-12, 1, 1, 2), (5, 1, 4, 0), (30, 2, 2, 1), (10, 3, 0, 2), (-20, 3, 3, 0), (-30, 4, 1, 1), (21, 5, 2, 0), (7, 6, 0, 1), (-8, 7, 1, 0), (1, 9, 0, 0)],
  [(6, 0, 2, 2), (-1, 0, 5, 0), (4, 1, 0, 3), (-20, 1, 3, 1), (-30, 2, 1, 2), (15, 2, 4, 0), (60, 3, 2, 1), (15, 4, 0, 2), (-35, 4, 3, 0), (-42, 5, 1, 1), (28, 6, 2, 0), (8, 7, 0, 1), (-9, 8, 1, 0), (1, 10, 0, 0)],
  [(-4, 0, 1, 3), (5, 0, 4, 1), (30, 1, 2, 2), (-6, 1, 5, 0), (10, 2, 0, 3), (-60, 2, 3, 1), (-60, 3, 1, 2), (35, 3, 4, 0), (105, 4, 2, 1), (21, 5, 0, 2), (-56, 5, 3, 0), (-56, 6, 1, 1), (36, 7, 2, 0), (9, 8, 0, 1), (-10, 9, 1, 0), (1, 11, 0, 0)]]
def sr_ST : List (List (Int × Nat × Nat × Nat)) := [
  [(1, 0, 0, 0)],
  [(1, 1, 0, 0)],
  [(-1, 0, 1, 0), (1, 2, 0, 0)],
  [(1, 0, 0, 1), (-2, 1, 1, 0), (1, 3, 0, 0)],
  [(1, 0, 2, 0), (2, 1, 0, 1), (-3, 2, 1, 0), (1, 4, 0, 0)],
  [(-2, 0, 1, 1), (3, 1, 2, 0), (3, 2, 0, 1), (-4, 3, 1, 0), (1, 5, 0, 0)],
  [(1, 0, 0, 2), (-1, 0, 3, 0), (-6, 1, 1, 1), (6, 2, 2, 0), (4, 3, 0, 1), (-5, 4, 1, 0), (1, 6, 0, 0)],
  [(3, 0, 2, 1), (3, 1, 0, 2), (-4, 1, 3, 0), (-12, 2, 1, 1), (10, 3, 2, 0), (5, 4, 0, 1), (-6, 5, 1, 0), (1, 7, 0, 0)],
  [(-3, 0, 1, 2), (1, 0, 4, 0), (12, 1, 2, 1), (6, 2, 0, 2), (-10, 2, 3, 0), (-20, 3, 1, 1), (15, 4, 2, 0), (6, 5, 0, 1), (-7, 6, 1, 0), (1, 8, 0, 0)],
  [(1, 0, 0, 3), (-4, 0, 3, 1), (-12, 1, 1, 2), (5, 1, 4, 0), (30, 2, 2, 1), (10, 3, 0, 2), (-20, 3, 3, 0), (-30, 4, 1, 1), (21, 5, 2, 0), (7, 6, 0, 1), (-8, 7, 1, 0), (1, 9, 0, 0)],
  [(1, 0, 1, 0)],
  [(-1, 0, 0, 1), (1, 1, 1, 0)],
  [(-1, 0, 2, 0), (-1, 1, 0, 1), (1, 2, 1, 0)],
  [(2, 0, 1, 1), (-2, 1, 2, 0), (-1, 2, 0, 1), (1, 3, 1, 0)],
  [(-1, 0, 0, 2), (1, 0, 3, 0), (4, 1, 1, 1), (-3, 2, 2, 0), (-1, 3, 0, 1), (1, 4, 1, 0)],
  [(-3, 0, 2, 1), (-2, 1, 0, 2), (3, 1, 3, 0), (6, 2, 1, 1), (-4, 3, 2, 0), (-1, 4, 0, 1), (1, 5, 1, 0)],
  [(3, 0, 1, 2), (-1, 0, 4, 0), (-9, 1, 2, 1), (-3, 2, 0, 2), (6, 2, 3, 0), (8, 3, 1, 1), (-5, 4, 2, 0), (-1, 5, 0, 1), (1, 6, 1, 0)],
  [(-1, 0, 0, 3), (4, 0, 3, 1), (9, 1, 1, 2), (-4, 1, 4, 0), (-18, 2, 2, 1), (-4, 3, 0, 2), (10, 3, 3, 0), (10, 4, 1, 1), (-6, 5, 2, 0), (-1, 6, 0, 1), (1, 7, 1, 0)],
  [(1, 0, 2, 0), (-1, 1, 0, 1)],
  [(-1, 0, 1, 1), (1, 1, 2, 0), (-1, 2, 0, 1)],
  [(-1, 0, 3, 0), (1, 2, 2, 0), (-1, 3, 0, 1)],
  [(2, 0, 2, 1), (-1, 1, 0, 2), (-2, 1, 3, 0), (1, 2, 1, 1), (1, 3, 2, 0), (-1, 4, 0, 1)],
  [(-1, 0, 1, 2), (1, 0, 4, 0), (3, 1, 2, 1), (-2, 2, 0, 2), (-3, 2, 3, 0), (2, 3, 1, 1), (1, 4, 2, 0), (-1, 5, 0, 1)],
  [(-3, 0, 3, 1), (3, 1, 4, 0), (3, 2, 2, 1), (-3, 3, 0, 2), (-4, 3, 3, 0), (3, 4, 1, 1), (1, 5, 2, 0), (-1, 6, 0, 1)],
  [(1, 0, 0, 2), (1, 0, 3, 0), (-2, 1, 1, 1)],
  [(-1, 0, 2, 1), (2, 1, 0, 2), (1, 1, 3, 0), (-2, 2, 1, 1)],
  [(-1, 0, 1, 2), (-1, 0, 4, 0), (1, 1, 2, 1), (2, 2, 0, 2), (1, 2, 3, 0), (-2, 3, 1, 1)],
  [(1, 0, 0, 3), (2, 0, 3, 1), (-5, 1, 1, 2), (-2, 1, 4, 0), (3, 2, 2, 1), (2, 3, 0, 2), (1, 3, 3, 0), (-2, 4, 1, 1)],
  [(2, 0, 1, 2), (1, 0, 4, 0), (-3, 1, 2, 1), (1, 2, 0, 2)],
  [(-1, 0, 0, 3), (-1, 0, 3, 1), (4, 1, 1, 2), (1, 1, 4, 0), (-3, 2, 2, 1), (1, 3, 0, 2)],
  [(1, 0, 0, 1)],
  [(1, 1, 0, 1)],
  [(-1, 0, 1, 1), (1, 2, 0, 1)],
  [(1, 0, 0, 2), (-2, 1, 1, 1), (1, 3, 0, 1)],
  [(1, 0, 2, 1), (2, 1, 0, 2), (-3, 2, 1, 1), (1, 4, 0, 1)],
  [(-2, 0, 1, 2), (3, 1, 2, 1), (3, 2, 0, 2), (-4, 3, 1, 1), (1, 5, 0, 1)],
  [(1, 0, 0, 3), (-1, 0, 3, 1), (-6, 1, 1, 2), (6, 2, 2, 1), (4, 3, 0, 2), (-5, 4, 1, 1), (1, 6, 0, 1)],
  [(1, 0, 1, 1)],
  [(-1, 0, 0, 2), (1, 1, 1, 1)],
  [(-1, 0, 2, 1), (-1, 1, 0, 2), (1, 2, 1, 1)],
  [(2, 0, 1, 2), (-2, 1, 2, 1), (-1, 2, 0, 2), (1, 3, 1, 1)],
  [(-1, 0, 0, 3), (1, 0, 3, 1), (4, 1, 1, 2), (-3, 2, 2, 1), (-1, 3, 0, 2), (1, 4, 1, 1)],
  [(1, 0, 2, 1), (-1, 1, 0, 2)],
  [(-1, 0, 1, 2), (1, 1, 2, 1), (-1, 2, 0, 2)],
  [(-1, 0, 3, 1), (1, 2, 2, 1), (-1, 3, 0, 2)],
  [(1, 0, 0, 3), (1, 0, 3, 1), (-2, 1, 1, 2)],
  [(1, 0, 0, 2)],
  [(1, 1, 0, 2)],
  [(-1, 0, 1, 2), (1, 2, 0, 2)],
  [(1, 0, 0, 3), (-2, 1, 1, 2), (1, 3, 0, 2)],
  [(1, 0, 1, 2)],
  [(-1, 0, 0, 3), (1, 1, 1, 2)],
  [(1, 0, 0, 3)]]
def sr_H (d : Nat) : List (Int × Nat × Nat × Nat) := sr_HT.getD d []
def sr_W (s : Nat) : List (Int × Nat × Nat × Nat) := sr_ST.getD s []
theorem sr_R3 (x y z : Int32) (d : Nat) : sr_R x y z (d + 3) = (x + y + z) * sr_R x y z (d + 2) - (x * y + y * z + z * x) * sr_R x y z (d + 1) + x * y * z * sr_R x y z d := by
  have h1 : sr_R x y z (d + 3) = sr_Q x y (d + 3) + z * sr_R x y z (d + 2) := rfl
  have h2 : sr_R x y z (d + 2) = sr_Q x y (d + 2) + z * sr_R x y z (d + 1) := rfl
  have h3 : sr_R x y z (d + 1) = sr_Q x y (d + 1) + z * sr_R x y z d := rfl
  have h4 : sr_Q x y (d + 3) = sr_pw x (d + 3) + y * sr_Q x y (d + 2) := rfl
  have h5 : sr_Q x y (d + 2) = sr_pw x (d + 2) + y * sr_Q x y (d + 1) := rfl
  have h6 : sr_pw x (d + 3) = sr_pw x (d + 2) * x := rfl
  generalize sr_R x y z (d + 3) = r3 at *
  generalize sr_R x y z (d + 2) = r2 at *
  generalize sr_R x y z (d + 1) = r1 at *
  generalize sr_R x y z d = r0 at *
  generalize sr_Q x y (d + 3) = q3 at *
  generalize sr_Q x y (d + 2) = q2 at *
  generalize sr_Q x y (d + 1) = q1 at *
  generalize sr_pw x (d + 3) = p3 at *
  generalize sr_pw x (d + 2) = p2 at *
  subst h1 h4 h6
  grind
theorem sr_Hrec : ∀ d, d < 9 → sr_nul (sr_sub (sr_H (d + 3)) (sr_mma 1 1 0 0 (sr_H (d + 2)) (sr_mma (-1) 0 1 0 (sr_H (d + 1)) (sr_mma 1 0 0 1 (sr_H d) [])))) = true := by decide +kernel
theorem sr_H3 (u v w : Int32) (d : Nat) (hd : d < 9) : sr_ev u v w (sr_H (d + 3)) = u * sr_ev u v w (sr_H (d + 2)) - v * sr_ev u v w (sr_H (d + 1)) + w * sr_ev u v w (sr_H d) := by
  rw [sr_ev_eq u v w (sr_Hrec d hd), sr_ev_mma, sr_ev_mma, sr_ev_mma, sr_ev, sr_one, sr_mone]
  simp only [sr_pw]
  grind
theorem sr_HR (x y z : Int32) : ∀ d, d < 12 → sr_ev (x + y + z) (x * y + y * z + z * x) (x * y * z) (sr_H d) = sr_R x y z d := by
  have key : ∀ n, n < 10 → sr_ev (x + y + z) (x * y + y * z + z * x) (x * y * z) (sr_H n) = sr_R x y z n ∧ sr_ev (x + y + z) (x * y + y * z + z * x) (x * y * z) (sr_H (n + 1)) = sr_R x y z (n + 1) ∧ sr_ev (x + y + z) (x * y + y * z + z * x) (x * y * z) (sr_H (n + 2)) = sr_R x y z (n + 2) := by
    intro n
    induction n with
    | zero =>
      intro _
      refine ⟨?_, ?_, ?_⟩
      · show Int32.ofInt 1 * (1 * 1 * 1) + 0 = (1 : Int32)
        decide
      · show Int32.ofInt 1 * (1 * (x + y + z) * 1 * 1) + 0 = 1 * x + y * 1 + z * 1
        rw [sr_one]
        grind
      · show Int32.ofInt (-1) * (1 * (1 * (x * y + y * z + z * x)) * 1) + (Int32.ofInt 1 * (1 * (x + y + z) * (x + y + z) * 1 * 1) + 0) = (1 * x * x + y * (1 * x + y * 1)) + z * (1 * x + y * 1 + z * 1)
        rw [sr_one, sr_mone]
        grind
    | succ n ih =>
      intro h
      obtain ⟨h0, h1, h2⟩ := ih (by omega)
      refine ⟨h1, h2, ?_⟩
      show sr_ev _ _ _ (sr_H (n + 3)) = sr_R x y z (n + 3)
      rw [sr_H3 _ _ _ n (by omega), sr_R3, h0, h1, h2]
  intro d hd
  by_cases h : d < 10
  · exact (key d h).1
  · by_cases h' : d = 10
    · subst h'
      exact (key 9 (by omega)).2.1
    · have : d = 11 := by omega
      subst this
      exact (key 9 (by omega)).2.2
theorem sr_Wok : ∀ s, s < 53 → sr_nul (sr_sub (sr_W s) (sr_pS sr_H s)) = true := by decide +kernel
theorem sr_WS (x y z : Int32) (s : Nat) (hs : s < 53) : sr_ev (x + y + z) (x * y + y * z + z * x) (x * y * z) (sr_W s) = sr_S x y z s := by
  rw [sr_ev_eq _ _ _ (sr_Wok s hs)]
  exact sr_ev_pS (sr_HR x y z) s hs
/-- the value doesn't see the order of the three -/
theorem sr_sym1 (x y z : Int32) (s : Nat) (hs : s < 53) : sr_S z y x s = sr_S x y z s := by
  rw [← sr_WS z y x s hs, ← sr_WS x y z s hs, show z + y + x = x + y + z by grind, show z * y + y * x + x * z = x * y + y * z + z * x by grind, show z * y * x = x * y * z by grind]
theorem sr_sym2 (x y z : Int32) (s : Nat) (hs : s < 53) : sr_S y z x s = sr_S x y z s := by
  rw [← sr_WS y z x s hs, ← sr_WS x y z s hs, show y + z + x = x + y + z by grind, show y * z + z * x + x * y = x * y + y * z + z * x by grind, show y * z * x = x * y * z by grind]
/-! how many fillings -/
def sr_fit (p q r n : Nat) : Bool :=
  let n11 : Int := (sr_A r : Int) - sr_A p
  let n13 : Int := (sr_A q : Int) - n11 - n
  let n22 : Int := (sr_B r : Int) - sr_B p - n
  let n23 : Int := (sr_B q : Int) - n22
  decide (0 ≤ n11) && (decide (0 ≤ n13) && (decide (0 ≤ n22) && (decide (0 ≤ n23) && (decide (n13 + n23 + sr_C q = (sr_C r : Int) - sr_C p)
    && (decide ((sr_B p : Int) + n ≤ sr_A p) && (decide ((sr_C p : Int) + n13 ≤ sr_B p) && (decide ((sr_C p : Int) + n13 + n23 ≤ (sr_B p : Int) + n)
    && (decide (n22 ≤ n11) && (decide ((sr_C q : Int) ≤ n22) && decide (n22 + n23 ≤ n11 + n))))))))))
def sr_cn (f : Nat → Bool) : Nat → Nat
  | 0 => 0
  | n + 1 => bif f n then sr_cn f n + 1 else sr_cn f n
def sr_c (p q r : Nat) : Nat := sr_cn (fun n => sr_fit p q r n) (sr_B r + 1 - sr_B p)
theorem sr_cn_le (f : Nat → Bool) (n : Nat) : sr_cn f n ≤ n := by
  induction n with
  | zero => exact Nat.le_refl 0
  | succ n ih =>
    rw [sr_cn]
    cases f n with
    | false => rw [cond_false]; omega
    | true => rw [cond_true]; omega
theorem sr_cn_zero {f : Nat → Bool} (h : ∀ n, f n = false) (n : Nat) : sr_cn f n = 0 := by
  induction n with
  | zero => rfl
  | succ n ih => rw [sr_cn, h n, cond_false, ih]
theorem sr_fit_z {p q r n : Nat} (h : sr_fit p q r n = true) : sr_z r = sr_z p + sr_z q := by
  simp only [sr_fit, Bool.and_eq_true, decide_eq_true_eq] at h
  simp only [sr_z]
  omega
theorem sr_c_z {p q r : Nat} (h : ¬ sr_z r = sr_z p + sr_z q) : sr_c p q r = 0 := by
  refine sr_cn_zero (fun n => ?_) _
  cases e : sr_fit p q r n with
  | false => rfl
  | true => exact absurd (sr_fit_z e) h
/-- the sum of the shapes of a size, each as often as f says -/
def sr_cmb (f : Nat → Nat) (w : Nat) : Nat → List (Int × Nat × Nat × Nat)
  | 0 => []
  | n + 1 => bif Nat.beq (sr_z n) w then sr_mma ((f n : Nat) : Int) 0 0 0 (sr_W n) (sr_cmb f w n) else sr_cmb f w n
theorem sr_ev_cmb (u v w : Int32) (f : Nat → Nat) (m : Nat) (hf : ∀ r, ¬ sr_z r = m → f r = 0) (n : Nat) : sr_ev u v w (sr_cmb f m n) = sr_sum (fun r => nI (f r) * sr_ev u v w (sr_W r)) n := by
  induction n with
  | zero => rfl
  | succ n ih =>
    rw [sr_cmb, sr_sum]
    cases e : Nat.beq (sr_z n) m with
    | false =>
      have h : ¬ sr_z n = m := Nat.ne_of_beq_eq_false e
      rw [cond_false, ih, hf n h, nI_0]
      grind
    | true =>
      rw [cond_true, sr_ev_mma, ih, Int32.ofInt_eq_ofNat, sr_pw, sr_pw, sr_pw]
      show nI (f n) * _ * _ + _ = _
      grind
theorem sr_lr0 : ∀ p, p < 53 → ∀ q, q < 53 → sr_z p ≤ 5 → sr_z q ≤ 4 → sr_nul (sr_sub (sr_cmb (sr_c p q) (sr_z p + sr_z q) 53) (sr_mul (sr_W p) (sr_W q))) = true := by decide +kernel
/-- the product of two shapes -/
theorem sr_lr (x y z : Int32) (p q : Nat) (hp : p < 53) (hq : q < 53) (zp : sr_z p ≤ 5) (zq : sr_z q ≤ 4) : sr_sum (fun r => nI (sr_c p q r) * sr_S x y z r) 53 = sr_S x y z p * sr_S x y z q := by
  have e := sr_ev_eq (x + y + z) (x * y + y * z + z * x) (x * y * z) (sr_lr0 p hp q hq zp zq)
  rw [sr_ev_mul, sr_ev_cmb _ _ _ _ _ (fun r h => sr_c_z h), sr_WS x y z p hp, sr_WS x y z q hq] at e
  rw [← e]
  exact sr_sum_congr (fun r hr => by rw [sr_WS x y z r hr])
end
section
/-! Part 03: the law's own sum of products (at), and that it is a shape's value -/
/-- the inner loop's term after k rounds -/
def sr_tm (x y z : Int32) (r w : Nat) : Nat → Int32
  | 0 => 1
  | k + 1 => sr_tm x y z r w k * (if k < r then x else if k < w then y else z)
theorem sr_tm1 (x y z : Int32) (r w : Nat) (h : r ≤ w) : ∀ k, sr_tm x y z r w k = sr_pw x (min k r) * sr_pw y (min k w - r) * sr_pw z (k - w) := by
  intro k
  induction k with
  | zero =>
    rw [show min 0 r = 0 by omega, show min 0 w - r = 0 by omega, show 0 - w = 0 by omega]
    show (1 : Int32) = 1 * 1 * 1
    decide
  | succ k ih =>
    rw [sr_tm, ih]
    by_cases h1 : k < r
    · rw [if_pos h1, show min (k + 1) r = min k r + 1 by omega, show min (k + 1) w - r = min k w - r by omega, show k + 1 - w = k - w by omega, sr_pw]
      grind
    · rw [if_neg h1, show min (k + 1) r = min k r by omega]
      by_cases h2 : k < w
      · rw [if_pos h2, show min (k + 1) w - r = (min k w - r) + 1 by omega, show k + 1 - w = k - w by omega, sr_pw]
        grind
      · rw [if_neg h2, show min (k + 1) w - r = min k w - r by omega, show k + 1 - w = (k - w) + 1 by omega, sr_pw]
        grind
theorem sr_tm2 (x y z : Int32) {r w n : Nat} (h : r ≤ w) (h2 : w ≤ n) : sr_tm x y z r w n = sr_pw x r * sr_pw y (w - r) * sr_pw z (n - w) := by
  rw [sr_tm1 x y z r w h, show min n r = r by omega, show min n w - r = w - r by omega]
/-- the three outer loops -/
def sr_at1 (x y z : Int32) (n p q : Nat) : Nat → Int32 := sr_sum (fun l => sr_tm x y z (q + l) (p + q) n)
def sr_at2 (x y z : Int32) (n p c : Nat) : Nat → Int32 := sr_sum (fun j => sr_at1 x y z n p (c + j) (p + 1 - (c + j)))
def sr_at3 (x y z : Int32) (n b c : Nat) : Nat → Int32 := sr_sum (fun i => sr_at2 x y z n (b + i) c (b + 1 - c))
def sr_at (x y z : Int32) (s : Nat) : Int32 := sr_at3 x y z (sr_A s + sr_B s + sr_C s) (sr_B s) (sr_C s) (sr_A s + 1 - sr_B s)
/-- the same over lists -/
def sr_pat (s : Nat) : List (Int × Nat × Nat × Nat) :=
  sr_psum (fun i => sr_psum (fun j => sr_psum (fun l => [(1, sr_C s + j + l, sr_B s + i + (sr_C s + j) - (sr_C s + j + l), sr_A s + sr_B s + sr_C s - (sr_B s + i + (sr_C s + j)))]) (sr_B s + i + 1 - (sr_C s + j))) (sr_B s + 1 - sr_C s)) (sr_A s + 1 - sr_B s)
theorem sr_ev_pat (x y z : Int32) (s : Nat) (hs : s < 53) : sr_ev x y z (sr_pat s) = sr_at x y z s := by
  obtain ⟨h1, h2, _, _⟩ := sr_tab s hs
  rw [sr_pat, sr_ev_psum, sr_at, sr_at3]
  refine sr_sum_congr (fun i hi => ?_)
  rw [sr_ev_psum, sr_at2]
  refine sr_sum_congr (fun j hj => ?_)
  rw [sr_ev_psum, sr_at1]
  refine sr_sum_congr (fun l hl => ?_)
  rw [sr_tm2 x y z (by omega) (by omega), sr_ev, sr_ev, sr_one]
  grind
/-- the complete sums over lists, by the letters themselves -/
def sr_pQ : Nat → List (Int × Nat × Nat × Nat)
  | 0 => [(1, 0, 0, 0)]
  | d + 1 => sr_ins 1 (d + 1) 0 0 (sr_mma 1 0 1 0 (sr_pQ d) [])
def sr_pR : Nat → List (Int × Nat × Nat × Nat)
  | 0 => [(1, 0, 0, 0)]
  | d + 1 => sr_mma 1 0 0 1 (sr_pR d) (sr_pQ (d + 1))
theorem sr_ev_pQ (x y z : Int32) (d : Nat) : sr_ev x y z (sr_pQ d) = sr_Q x y d := by
  induction d with
  | zero =>
    show Int32.ofInt 1 * (1 * 1 * 1) + 0 = (1 : Int32)
    decide
  | succ d ih =>
    rw [sr_pQ, sr_ev_ins, sr_ev_mma, ih, sr_ev, sr_Q, sr_one]
    simp only [sr_pw]
    grind
theorem sr_ev_pR (x y z : Int32) (d : Nat) : sr_ev x y z (sr_pR d) = sr_R x y z d := by
  induction d with
  | zero =>
    show Int32.ofInt 1 * (1 * 1 * 1) + 0 = (1 : Int32)
    decide
  | succ d ih =>
    rw [sr_pR, sr_ev_mma, ih, sr_ev_pQ, sr_R, sr_one]
    simp only [sr_pw]
    grind
theorem sr_at0 : ∀ s, s < 53 → sr_z s ≤ 5 → sr_nul (sr_sub (sr_pat s) (sr_pS sr_pR s)) = true := by decide +kernel
theorem sr_atS (x y z : Int32) (s : Nat) (hs : s < 53) (hz : sr_z s ≤ 5) : sr_at x y z s = sr_S x y z s := by
  rw [← sr_ev_pat x y z s hs, sr_ev_eq x y z (sr_at0 s hs hz)]
  exact sr_ev_pS (fun d _ => sr_ev_pR x y z d) s hs
end
section
/-! Part 04: the walks of the constructor, code, find, shapeOf, badElement, add, get, coefficient -/
def sr_ok (c : Nat) (a1 a2 a3 : Nat → Int32) : Prop := ∀ j, j < c → a1 j = nI (sr_A j) ∧ a2 j = nI (sr_B j) ∧ a3 j = nI (sr_C j)
def sr_val (k : Nat) : Bool := Nat.ble (k / 10 % 10) (k % 10) && (Nat.ble (k / 100) (k / 10 % 10) && Nat.ble (k % 10 + k / 10 % 10 + k / 100) 9)
theorem sr_val_t {k : Nat} (h1 : k / 10 % 10 ≤ k % 10) (h2 : k / 100 ≤ k / 10 % 10) (h3 : k % 10 + k / 10 % 10 + k / 100 ≤ 9) : sr_val k = true := by
  rw [sr_val, Nat.ble_eq_true_of_le h1, Nat.ble_eq_true_of_le h2, Nat.ble_eq_true_of_le h3]
  rfl
theorem sr_val_f {k : Nat} (h : ¬ (k / 10 % 10 ≤ k % 10 ∧ k / 100 ≤ k / 10 % 10 ∧ k % 10 + k / 10 % 10 + k / 100 ≤ 9)) : sr_val k = false := by
  cases e : sr_val k with
  | false => rfl
  | true =>
    rw [sr_val, Bool.and_eq_true, Bool.and_eq_true] at e
    exact absurd ⟨Nat.le_of_ble_eq_true e.1, Nat.le_of_ble_eq_true e.2.1, Nat.le_of_ble_eq_true e.2.2⟩ h
/-- the constructor's count and the table go together -/
def sr_chk : Nat → Nat → Nat → Bool
  | 0, _, c => Nat.beq c 53
  | n + 1, k, c => bif sr_val k then (Nat.blt c 53 && Nat.beq (sr_t c) k) && sr_chk n (k + 1) (c + 1) else sr_chk n (k + 1) c
theorem sr_chk0 : sr_chk 1000 0 0 = true := by decide +kernel
theorem sr_byte : ∀ a, a < 10 → (nI a).toInt8.toInt32 = nI a := by decide +kernel
theorem sr_put {f : Nat → Int32} {g : Nat → Nat} {c : Nat} {v : Nat} (h : ∀ j, j < c → f j = nI (g j)) (e : v = g c) : ∀ j, j < c + 1 → upd f c (nI v) j = nI (g j) := by
  intro j hj
  by_cases hjc : j = c
  · rw [hjc, pk_us, e]
  · rw [pk_un hjc]
    exact h j (by omega)
theorem sr_init {post : St2 → Prop} (H : ∀ a1 a2 a3, sr_ok 53 a1 a2 a3 → post (nI 53, a1, a2, a3, fun _ => 0, fun _ => 0, fun _ => 0)) : wpX_init post 6 372 0 := by
  refine ⟨by omega, by omega, by omega, by omega, by omega, by omega, by omega, by omega, by omega, by omega, by omega, by omega, ?_⟩
  refine pk_loop (σ := Int32 × (Nat → Int32) × (Nat → Int32) × (Nat → Int32)) (fun n i s => wX_init_54 post 6 372 6 372 n (nI i) s.1 s.2.1 s.2.2.1 s.2.2.2 (fun _ => 0) (fun _ => 0) (fun _ => 0))
    (fun i s => ∃ c, s.1 = nI c ∧ sr_chk (1000 - i) i c = true ∧ sr_ok c s.2.1 s.2.2.1 s.2.2.2) 1000 0 (0, (fun _ => 0), (fun _ => 0), (fun _ => 0)) (by omega) ⟨0, rfl, sr_chk0, fun j hj => absurd hj (by omega)⟩ ?_ ?_
  · intro n s hI
    obtain ⟨cc, a1, a2, a3⟩ := s
    obtain ⟨c, hc, hk, ho⟩ := hI
    dsimp only at hc ho
    have e : c = 53 := Nat.eq_of_beq_eq_true hk
    subst e
    subst hc
    exact pk_le 1000 1000 (fun _ => H a1 a2 a3 ho) (fun z => absurd z (by omega))
  · intro n i s hi hI hw
    obtain ⟨cc, a1, a2, a3⟩ := s
    obtain ⟨c, hc, hk, ho⟩ := hI
    dsimp only at hc ho hw ⊢
    subst hc
    rw [show 1000 - i = (1000 - (i + 1)) + 1 by omega, sr_chk] at hk
    have hd : nI i / 10 = nI (i / 10) := pk_div (d := 10) (by omega) (by omega) (by omega)
    have h2 : (nI i / 10) - (nI i / 10) / 10 * 10 = nI (i / 10 % 10) := by
      rw [hd]
      exact pk_rem (d := 10) (by omega) (by omega) (by omega)
    have back : sr_val i = false → wX_init_54 post 6 372 6 372 n (nI (i + 1)) (nI c) a1 a2 a3 (fun _ => 0) (fun _ => 0) (fun _ => 0) := by
      intro hv
      rw [hv, cond_false] at hk
      exact hw (nI c, a1, a2, a3) ⟨c, rfl, hk, ho⟩
    refine pk_le 1000 i (fun z => absurd z (by omega)) (fun _ => ⟨by decide, nm_r (pk_rem (a := i) (d := 10) (by omega) (by omega) (by omega)) ⟨by decide, by decide, nm_r h2 ⟨by decide, nm_r (pk_div (a := i) (d := 100) (by omega) (by omega) (by omega)) ?_⟩⟩⟩)
    refine pk_lt (i % 10) (i / 10 % 10) (fun z => nm_r (nI_1 i) (back (sr_val_f (by omega)))) (fun z1 => ?_)
    refine pk_lt (i / 10 % 10) (i / 100) (fun z => nm_r (nI_1 i) (back (sr_val_f (by omega)))) (fun z2 => ?_)
    refine pk_lt 9 (i % 10 + i / 10 % 10 + i / 100) (fun z => nm_r (nI_1 i) (back (sr_val_f (by omega)))) (fun z3 => ?_) rfl (by rw [nI_add, nI_add])
    rw [sr_val_t z1 z2 z3, cond_true, Bool.and_eq_true, Bool.and_eq_true, Nat.blt_eq] at hk
    obtain ⟨⟨hc53, ht⟩, hk⟩ := hk
    have ht := Nat.eq_of_beq_eq_true ht
    have hcl : (nI c).toNatClampNeg = c := nI_clamp (by omega)
    refine ⟨pk_in c 60 (by omega), nm_r (e' := upd a1 c (nI (i % 10))) (by rw [hcl, sr_byte _ (by omega)]) ⟨pk_in c 60 (by omega), nm_r (e' := upd a2 c (nI (i / 10 % 10))) (by rw [hcl, sr_byte _ (by omega)]) ⟨pk_in c 60 (by omega), nm_r (e' := upd a3 c (nI (i / 100))) (by rw [hcl, sr_byte _ (by omega)]) (nm_r (nI_1 c) (nm_r (nI_1 i) ?_))⟩⟩⟩
    refine hw (nI (c + 1), upd a1 c (nI (i % 10)), upd a2 c (nI (i / 10 % 10)), upd a3 c (nI (i / 100))) ⟨c + 1, rfl, hk, fun j hj => ⟨?_, ?_, ?_⟩⟩
    · exact sr_put (g := sr_A) (fun j hj => (ho j hj).1) (by rw [sr_A, ht]) j hj
    · exact sr_put (g := sr_B) (fun j hj => (ho j hj).2.1) (by rw [sr_B, ht]) j hj
    · exact sr_put (g := sr_C) (fun j hj => (ho j hj).2.2) (by rw [sr_C, ht]) j hj
/-! code -/
def sr_ix (k : Nat) : Nat := sr_T.findIdx (fun t => Nat.beq t k)
theorem sr_ixok : ∀ k, k < 1000 → sr_val k = true → sr_ix k < 53 ∧ sr_t (sr_ix k) = k := by decide +kernel
theorem sr_shape {a b c m : Nat} (h1 : c ≤ b) (h2 : b ≤ a) (h3 : a + b + c ≤ m) (hm : m ≤ 9) : ∃ s, s < 53 ∧ sr_t s = a + 10 * b + 100 * c ∧ sr_z s ≤ m := by
  have ea : (a + 10 * b + 100 * c) % 10 = a := by omega
  have eb : (a + 10 * b + 100 * c) / 10 % 10 = b := by omega
  have ec : (a + 10 * b + 100 * c) / 100 = c := by omega
  obtain ⟨s1, s2⟩ := sr_ixok (a + 10 * b + 100 * c) (by omega) (sr_val_t (by omega) (by omega) (by omega))
  refine ⟨_, s1, s2, ?_⟩
  rw [sr_z, sr_A, sr_B, sr_C, s2, ea, eb, ec]
  exact h3
theorem sr_code34 {post : Int32 → Prop} {m : Nat} (hm : m ≤ 9) (H : ∀ s, s < 53 → sr_z s ≤ m → post (nI (sr_t s))) (a b c : Nat) (h1 : c ≤ b) (h2 : b ≤ a) (h3 : a ≤ m) : ∃ n, wL_code_34 post (nI m) n (nI a) (nI b) (nI c) := by
  refine loop_m (σ := Nat × Nat × Nat) (fun n s => wL_code_34 post (nI m) n (nI s.1) (nI s.2.1) (nI s.2.2)) (fun s => s.2.2 ≤ s.2.1 ∧ s.2.1 ≤ s.1 ∧ s.1 ≤ m) (fun s => s.1 + s.2.1 + s.2.2) ?_ (a, b, c) ⟨h1, h2, h3⟩
  intro n s hI hw
  obtain ⟨a, b, c⟩ := s
  obtain ⟨h1, h2, h3⟩ := hI
  dsimp only at h1 h2 h3 hw ⊢
  refine pk_le (a + b + c) m (fun z => ?_) (fun z => ?_) (by rw [nI_add, nI_add]) rfl
  · obtain ⟨s, hs, ht, hz⟩ := sr_shape h1 h2 z hm
    have e : nI a + 10 * nI b + 100 * nI c = nI (sr_t s) := by
      rw [show (10 : Int32) = nI 10 from rfl, show (100 : Int32) = nI 100 from rfl, pk_mul, pk_mul, nI_add, nI_add, ht]
    rw [e]
    exact H s hs hz
  · refine pk_le c 0 (fun z2 => ?_) (fun z2 => ?_)
    · refine pk_le b 0 (fun z3 => absurd z (by omega)) (fun z3 => ?_)
      exact nm_r (sb_m1 (by omega)) (hw (a, b - 1, c) ⟨by dsimp only; omega, by dsimp only; omega, h3⟩ (by dsimp only; omega))
    · exact nm_r (sb_m1 (by omega)) (hw (a, b, c - 1) ⟨by dsimp only; omega, h2, h3⟩ (by dsimp only; omega))
theorem sr_code {post : Int32 → Prop} (p0 : Int32) {m : Nat} (hm : m ≤ 9) (H : ∀ s, s < 53 → sr_z s ≤ m → post (nI (sr_t s))) : wpL_code post () p0 (nI m) := by
  obtain ⟨j0, hj0, e0⟩ := pk_andE p0 (m := 127) 7 (by decide)
  obtain ⟨j1, hj1, e1⟩ := pk_andE (p0 >>> ((7 : Int32) &&& 31)) (m := 127) 7 (by decide)
  obtain ⟨j2, hj2, e2⟩ := pk_andE (p0 >>> ((14 : Int32) &&& 31)) (m := 127) 7 (by decide)
  have l0 : j0 % (m + 1) < m + 1 := Nat.mod_lt _ (by omega)
  have l1 : j1 % (j0 % (m + 1) + 1) < j0 % (m + 1) + 1 := Nat.mod_lt _ (by omega)
  have l2 : j2 % (j1 % (j0 % (m + 1) + 1) + 1) < j1 % (j0 % (m + 1) + 1) + 1 := Nat.mod_lt _ (by omega)
  unfold wpL_code
  rw [e0, e1, e2]
  refine ⟨?_, nm_r (e' := nI (j0 % (m + 1))) ?_ ⟨?_, nm_r (e' := nI (j1 % (j0 % (m + 1) + 1))) ?_ ⟨?_, nm_r (e' := nI (j2 % (j1 % (j0 % (m + 1) + 1) + 1))) ?_ ?_⟩⟩⟩
  · rw [nI_1]; exact nI_ne0 (by omega) (by omega)
  · rw [nI_1]; exact pk_rem (by omega) (by omega) (by omega)
  · rw [nI_1]; exact nI_ne0 (by omega) (by omega)
  · rw [nI_1]; exact pk_rem (by omega) (by omega) (by omega)
  · rw [nI_1]; exact nI_ne0 (by omega) (by omega)
  · rw [nI_1]; exact pk_rem (by omega) (by omega) (by omega)
  · exact sr_code34 hm H _ _ _ (by omega) (by omega) (by omega)
/-! find, shapeOf -/
theorem sr_inj : ∀ i, i < 53 → ∀ j, j < 53 → sr_A i = sr_A j → sr_B i = sr_B j → sr_C i = sr_C j → i = j := by decide +kernel
theorem sr_small {s : Nat} (hs : s < 53) : sr_A s ≤ 9 ∧ sr_B s ≤ 9 ∧ sr_C s ≤ 9 := by
  obtain ⟨h1, h2, h3, _⟩ := sr_tab s hs
  rw [sr_z] at h3
  omega
theorem sr_find {post : Int32 → Prop} {a1 a2 a3 a4 a5 a6 : Nat → Int32} (K : sr_ok 53 a1 a2 a3) {s : Nat} (hs : s < 53) (H : post (nI s)) : wpX_find post (nI 53, a1, a2, a3, a4, a5, a6) (nI (sr_A s)) (nI (sr_B s)) (nI (sr_C s)) := by
  obtain ⟨b1, b2, b3⟩ := sr_small hs
  refine pk_loop (σ := Unit) (fun n i _ => wX_find_3 post (nI (sr_A s)) (nI (sr_B s)) (nI (sr_C s)) (nI 53) a1 a2 a3 a4 a5 a6 n (nI i)) (fun _ _ => True) s 0 () (by omega) trivial ?_ ?_
  · intro n _ _
    obtain ⟨k1, k2, k3⟩ := K s hs
    have hcl : (nI s).toNatClampNeg = s := nI_clamp (by omega)
    exact pk_le 53 s (fun z => absurd z (by omega)) (fun _ => ⟨pk_in s 60 (by omega), br_t (by rw [hcl, k1]) ⟨pk_in s 60 (by omega), br_t (by rw [hcl, k2]) ⟨pk_in s 60 (by omega), br_t (by rw [hcl, k3]) H⟩⟩⟩)
  · intro n i _ hi _ hw
    obtain ⟨k1, k2, k3⟩ := K i (by omega)
    obtain ⟨c1, c2, c3⟩ := sr_small (s := i) (by omega)
    have hcl : (nI i).toNatClampNeg = i := nI_clamp (by omega)
    have nx := hw () trivial
    refine pk_le 53 i (fun z => absurd z (by omega)) (fun _ => ⟨pk_in i 60 (by omega), ?_⟩)
    refine pk_eq (sr_A i) (sr_A s) (fun z1 => ⟨pk_in i 60 (by omega), ?_⟩) (fun _ => nm_r (nI_1 i) nx) (by rw [hcl, k1]) rfl
    refine pk_eq (sr_B i) (sr_B s) (fun z2 => ⟨pk_in i 60 (by omega), ?_⟩) (fun _ => nm_r (nI_1 i) nx) (by rw [hcl, k2]) rfl
    exact pk_eq (sr_C i) (sr_C s) (fun z3 => absurd (sr_inj i (by omega) s hs z1 z2 z3) (by omega)) (fun _ => nm_r (nI_1 i) nx) (by rw [hcl, k3]) rfl
theorem sr_shapeOf {post : Int32 → Prop} {a1 a2 a3 a4 a5 a6 : Nat → Int32} (K : sr_ok 53 a1 a2 a3) {s : Nat} (hs : s < 53) (H : post (nI s)) : wpX_shapeOf post (nI 53, a1, a2, a3, a4, a5, a6) (nI (sr_t s)) := by
  obtain ⟨_, _, _, ht⟩ := sr_tab s hs
  have hd : nI (sr_t s) / 10 = nI (sr_t s / 10) := pk_div (d := 10) (by omega) (by omega) (by omega)
  have e1 : nI (sr_t s) - nI (sr_t s) / 10 * 10 = nI (sr_A s) := pk_rem (d := 10) (by omega) (by omega) (by omega)
  have e2 : (nI (sr_t s) / 10) - (nI (sr_t s) / 10) / 10 * 10 = nI (sr_B s) := by
    rw [hd]
    exact pk_rem (d := 10) (by omega) (by omega) (by omega)
  have e3 : nI (sr_t s) / 100 = nI (sr_C s) := pk_div (d := 100) (by omega) (by omega) (by omega)
  unfold wpX_shapeOf
  dsimp only
  refine br_f (nI_pos (by omega)) (pk_le (sr_t s) 999 (fun _ => ⟨by decide, by decide, by decide, by decide, ?_⟩) (fun z => absurd z (by omega)))
  rw [e1, e2, e3]
  exact sr_find K hs H
theorem sr_bad {post : Int32 → Prop} {u : St2} {e : Nat} (he : e ≤ 1) (H : post 0) : wpX_badElement post u (nI e) := by
  obtain ⟨c, a1, a2, a3, a4, a5, a6⟩ := u
  exact br_f (nI_pos (by omega)) (pk_le e 1 (fun _ => H) (fun z => absurd z (by omega)))
theorem sr_60 (e s : Nat) : 60 * nI e + nI s = nI (60 * e + s) := by
  rw [show (60 : Int32) = nI 60 from rfl, pk_mul, nI_add]
theorem sr_get {post : Int32 → Prop} {c : Int32} {a1 a2 a3 a4 a5 a6 : Nat → Int32} {e s : Nat} (he : e ≤ 1) (hs : s < 60) (H : post (a4 (60 * e + s))) : wpX_get post (c, a1, a2, a3, a4, a5, a6) (nI e) (nI s) := by
  unfold wpX_get
  dsimp only
  rw [sr_60]
  refine ⟨pk_in (60 * e + s) 120 (by omega), ?_⟩
  rw [nI_clamp (by omega)]
  exact H
theorem sr_addW {post : Int32 → St2 → Prop} {a1 a2 a3 a4 a5 a6 : Nat → Int32} (K : sr_ok 53 a1 a2 a3) {e s : Nat} (he : e ≤ 1) (hs : s < 53) (v : Int32) (H : post 0 (nI 53, a1, a2, a3, upd a4 (60 * e + s) (a4 (60 * e + s) + v), a5, a6)) : wpX_add post (nI 53, a1, a2, a3, a4, a5, a6) (nI e) (nI (sr_t s)) v := by
  unfold wpX_add
  dsimp only
  refine sr_shapeOf K hs (sr_bad he (br_t rfl (br_t (nI_pos' (by omega)) ?_)))
  rw [sr_60]
  exact ⟨pk_in (60 * e + s) 120 (by omega), pk_in (60 * e + s) 120 (by omega), nm_r (e' := upd a4 (60 * e + s) (a4 (60 * e + s) + v)) (by rw [nI_clamp (by omega)]) H⟩
theorem sr_coef {post : Int32 → Prop} {a1 a2 a3 a4 a5 a6 : Nat → Int32} (K : sr_ok 53 a1 a2 a3) {e s : Nat} (he : e ≤ 1) (hs : s < 53) (H : post (a4 (60 * e + s))) : wpX_coefficient post (nI 53, a1, a2, a3, a4, a5, a6) (nI e) (nI (sr_t s)) := by
  unfold wpX_coefficient
  dsimp only
  exact sr_shapeOf K hs (sr_bad he (br_t rfl (br_t (nI_pos' (by omega)) (sr_get he (by omega) H))))
end
section
/-! Part 05: the walks of at, findComplete, completeOf, valueOf, value, inner -/
theorem sr_at63 {post : Int32 → Prop} {J28 J39 J50 : Int32 → Int32 → Prop} {x y z x7 : Int32} {a b c p q r : Nat} (hb : a ≤ 9 ∧ b ≤ 9 ∧ c ≤ 9 ∧ p ≤ 9 ∧ q ≤ 9 ∧ r ≤ 9) (H : J50 (x7 + sr_tm x y z r (p + q) (a + b + c)) (nI (r + 1))) : ∃ n, wL_at_63 post J28 J39 J50 x y z (nI a) (nI b) (nI c) x7 (nI p) (nI q) (nI r) n 1 0 := by
  have e3 : nI a + nI b + nI c = nI (a + b + c) := by rw [nI_add, nI_add]
  have e2 : nI p + nI q = nI (p + q) := nI_add p q
  refine pk_loop (σ := Int32) (fun n i s => wL_at_63 post J28 J39 J50 x y z (nI a) (nI b) (nI c) x7 (nI p) (nI q) (nI r) n s (nI i)) (fun i s => s = sr_tm x y z r (p + q) i) (a + b + c) 0 1 (by omega) rfl ?_ ?_
  · intro n s hs
    subst hs
    exact pk_le (a + b + c) (a + b + c) (fun _ => nm_e (nm_r (nI_1 r) H)) (fun z => absurd z (by omega)) e3 rfl
  · intro n i s hi hs hw
    subst hs
    refine pk_le (a + b + c) i (fun z => absurd z (by omega)) (fun _ => ?_) e3 rfl
    refine pk_le r i (fun z1 => ?_) (fun z1 => ?_)
    · refine pk_le (p + q) i (fun z2 => ?_) (fun z2 => ?_) e2 rfl
      · exact nm_e (nm_r (nI_1 i) (hw _ (by rw [sr_tm, if_neg (by omega), if_neg (by omega)])))
      · exact nm_e (nm_r (nI_1 i) (hw _ (by rw [sr_tm, if_neg (by omega), if_pos (by omega)])))
    · exact nm_e (nm_r (nI_1 i) (hw _ (by rw [sr_tm, if_pos (by omega)])))
theorem sr_add0 (x : Int32) : x = x + 0 := by grind
theorem sr_at50 {post : Int32 → Prop} {J28 J39 : Int32 → Int32 → Prop} {x y z x7 : Int32} {a b c p q : Nat} (hb : a ≤ 9 ∧ b ≤ 9 ∧ c ≤ 9 ∧ p ≤ 9 ∧ q ≤ p) (H : J39 (x7 + sr_at1 x y z (a + b + c) p q (p + 1 - q)) (nI (q + 1))) : ∃ n, wL_at_50 post J28 J39 x y z (nI a) (nI b) (nI c) (nI p) (nI q) n x7 (nI q) := by
  refine pk_loop (σ := Int32) (fun n i s => wL_at_50 post J28 J39 x y z (nI a) (nI b) (nI c) (nI p) (nI q) n s (nI (q + i))) (fun i s => s = x7 + sr_at1 x y z (a + b + c) p q i) (p + 1 - q) 0 x7 (by omega) (sr_add0 x7) ?_ ?_
  · intro n s hs
    subst hs
    exact pk_lt p (q + (p + 1 - q)) (fun _ => nm_r (nI_1 q) H) (fun z => absurd z (by omega))
  · intro n i s hi hs hw
    subst hs
    refine pk_lt p (q + i) (fun z => absurd z (by omega)) (fun _ => ?_)
    refine sr_at63 (by omega) (hw _ ?_)
    rw [sr_at1, sr_sum]
    grind
theorem sr_at39 {post : Int32 → Prop} {J28 : Int32 → Int32 → Prop} {x y z x7 : Int32} {a b c p : Nat} (hb : a ≤ 9 ∧ b ≤ p ∧ c ≤ b ∧ p ≤ 9) (H : J28 (x7 + sr_at2 x y z (a + b + c) p c (b + 1 - c)) (nI (p + 1))) : ∃ n, wL_at_39 post J28 x y z (nI a) (nI b) (nI c) (nI p) n x7 (nI c) := by
  refine pk_loop (σ := Int32) (fun n i s => wL_at_39 post J28 x y z (nI a) (nI b) (nI c) (nI p) n s (nI (c + i))) (fun i s => s = x7 + sr_at2 x y z (a + b + c) p c i) (b + 1 - c) 0 x7 (by omega) (sr_add0 x7) ?_ ?_
  · intro n s hs
    subst hs
    exact pk_lt b (c + (b + 1 - c)) (fun _ => nm_r (nI_1 p) H) (fun z => absurd z (by omega))
  · intro n i s hi hs hw
    subst hs
    refine pk_lt b (c + i) (fun z => absurd z (by omega)) (fun _ => ?_)
    refine sr_at50 (by omega) (hw _ ?_)
    rw [sr_at2, sr_sum]
    grind
theorem sr_at28 {post : Int32 → Prop} {x y z : Int32} {a b c : Nat} (hb : a ≤ 9 ∧ b ≤ a ∧ c ≤ b) (H : post (sr_at3 x y z (a + b + c) b c (a + 1 - b))) : ∃ n, wL_at_28 post x y z (nI a) (nI b) (nI c) n 0 (nI b) := by
  refine pk_loop (σ := Int32) (fun n i s => wL_at_28 post x y z (nI a) (nI b) (nI c) n s (nI (b + i))) (fun i s => s = sr_at3 x y z (a + b + c) b c i) (a + 1 - b) 0 0 (by omega) rfl ?_ ?_
  · intro n s hs
    subst hs
    exact pk_lt a (b + (a + 1 - b)) (fun _ => H) (fun z => absurd z (by omega))
  · intro n i s hi hs hw
    subst hs
    refine pk_lt a (b + i) (fun z => absurd z (by omega)) (fun _ => ?_)
    refine sr_at39 (by omega) (hw _ ?_)
    rw [sr_at3, sr_sum]
theorem sr_atW {post : Int32 → Prop} {x y z : Int32} {s : Nat} (hs : s < 53) (H : post (sr_at x y z s)) : wpL_at post () (nI (sr_t s)) x y z := by
  obtain ⟨h1, h2, _, ht⟩ := sr_tab s hs
  obtain ⟨b1, b2, b3⟩ := sr_small hs
  have hd : nI (sr_t s) / 10 = nI (sr_t s / 10) := pk_div (d := 10) (by omega) (by omega) (by omega)
  have e1 : nI (sr_t s) - nI (sr_t s) / 10 * 10 = nI (sr_A s) := pk_rem (d := 10) (by omega) (by omega) (by omega)
  have e2 : (nI (sr_t s) / 10) - (nI (sr_t s) / 10) / 10 * 10 = nI (sr_B s) := by
    rw [hd]
    exact pk_rem (d := 10) (by omega) (by omega) (by omega)
  have e3 : nI (sr_t s) / 100 = nI (sr_C s) := pk_div (d := 100) (by omega) (by omega) (by omega)
  exact ⟨by decide, nm_r e1 ⟨by decide, by decide, nm_r e2 ⟨by decide, nm_r e3 (sr_at28 ⟨b1, h1, h2⟩ H)⟩⟩⟩
/-! findComplete -/
/-- one more place of a run of places is written -/
theorem sr_upd {s f g : Nat → Int32} {lo i k : Nat} {v : Int32} (h : ∀ j, s j = if lo ≤ j ∧ j < lo + i then g j else f j) (hk : k = lo + i) (hv : v = g (lo + i)) : ∀ j, upd s k v j = if lo ≤ j ∧ j < lo + (i + 1) then g j else f j := by
  intro j
  subst hk
  by_cases e : j = lo + i
  · rw [e, pk_us, if_pos (by omega), hv]
  · rw [pk_un e, h j]
    by_cases e2 : lo ≤ j ∧ j < lo + i
    · rw [if_pos e2, if_pos (by omega)]
    · rw [if_neg e2, if_neg (by omega)]
theorem sr_upd0 {f g : Nat → Int32} {lo : Nat} : ∀ j, f j = if lo ≤ j ∧ j < lo + 0 then g j else f j := fun j => by rw [if_neg (by omega)]
theorem sr_fc88 {post : St2 → Prop} {c x y z : Int32} {a1 a2 a3 a4 a5 a6 : Nat → Int32} (h6 : ∀ j, j < 12 → a6 j = sr_Q x y j) (H : ∀ a6', (∀ j, j < 12 → a6' j = sr_R x y z j) → post (c, a1, a2, a3, a4, a5, a6')) : ∃ n, wX_findComplete_88 post z c n 1 a1 a2 a3 a4 a5 a6 := by
  refine pk_loop (σ := Nat → Int32) (fun n i s => wX_findComplete_88 post z c n (nI (1 + i)) a1 a2 a3 a4 a5 s) (fun i s => ∀ j, s j = if 1 ≤ j ∧ j < 1 + i then sr_R x y z j else a6 j) 11 0 a6 (by omega) sr_upd0 ?_ ?_
  · intro n s hs
    refine pk_le 12 (1 + 11) (fun _ => H s (fun j hj => ?_)) (fun z => absurd z (by omega))
    rw [hs j]
    by_cases e : j = 0
    · rw [if_neg (by omega), h6 j hj, e]
      rfl
    · rw [if_pos (by omega)]
  · intro n i s hi hs hw
    have hm : nI (1 + i) - 1 = nI i := by
      rw [Nat.add_comm]
      exact nI_pred i
    have hc1 : (nI (1 + i)).toNatClampNeg = 1 + i := nI_clamp (by omega)
    have hc0 : (nI i).toNatClampNeg = i := nI_clamp (by omega)
    have s1 : s (1 + i) = sr_Q x y (i + 1) := by rw [hs, if_neg (by omega), h6 _ (by omega), Nat.add_comm]
    have s0 : s i = sr_R x y z i := by
      rw [hs]
      by_cases e : i = 0
      · rw [if_neg (by omega), h6 _ (by omega), e]
        rfl
      · rw [if_pos (by omega)]
    refine pk_le 12 (1 + i) (fun z => absurd z (by omega)) (fun _ => ⟨pk_in (1 + i) 12 (by omega), pk_in i 12 (by omega) hm, pk_in (1 + i) 12 (by omega), nm_r (e' := upd s (1 + i) (sr_R x y z (i + 1))) ?_ (nm_r (nI_1 (1 + i)) (hw _ (sr_upd hs rfl (by rw [Nat.add_comm]))))⟩)
    rw [hm, hc1, hc0, s1, s0]
    rfl
theorem sr_fc46 {post : St2 → Prop} {c x y z : Int32} {a1 a2 a3 a4 a5 a6 : Nat → Int32} (h6 : ∀ j, j < 12 → a6 j = sr_pw x j) (H : ∀ a6', (∀ j, j < 12 → a6' j = sr_R x y z j) → post (c, a1, a2, a3, a4, a5, a6')) : ∃ n, wX_findComplete_46 post y z c n 1 a1 a2 a3 a4 a5 a6 := by
  refine pk_loop (σ := Nat → Int32) (fun n i s => wX_findComplete_46 post y z c n (nI (1 + i)) a1 a2 a3 a4 a5 s) (fun i s => ∀ j, s j = if 1 ≤ j ∧ j < 1 + i then sr_Q x y j else a6 j) 11 0 a6 (by omega) sr_upd0 ?_ ?_
  · intro n s hs
    refine pk_le 12 (1 + 11) (fun _ => sr_fc88 (x := x) (y := y) (fun j hj => ?_) H) (fun z => absurd z (by omega))
    rw [hs j]
    by_cases e : j = 0
    · rw [if_neg (by omega), h6 j hj, e]
      rfl
    · rw [if_pos (by omega)]
  · intro n i s hi hs hw
    have hm : nI (1 + i) - 1 = nI i := by
      rw [Nat.add_comm]
      exact nI_pred i
    have hc1 : (nI (1 + i)).toNatClampNeg = 1 + i := nI_clamp (by omega)
    have hc0 : (nI i).toNatClampNeg = i := nI_clamp (by omega)
    have s1 : s (1 + i) = sr_pw x (i + 1) := by rw [hs, if_neg (by omega), h6 _ (by omega), Nat.add_comm]
    have s0 : s i = sr_Q x y i := by
      rw [hs]
      by_cases e : i = 0
      · rw [if_neg (by omega), h6 _ (by omega), e]
        rfl
      · rw [if_pos (by omega)]
    refine pk_le 12 (1 + i) (fun z => absurd z (by omega)) (fun _ => ⟨pk_in (1 + i) 12 (by omega), pk_in i 12 (by omega) hm, pk_in (1 + i) 12 (by omega), nm_r (e' := upd s (1 + i) (sr_Q x y (i + 1))) ?_ (nm_r (nI_1 (1 + i)) (hw _ (sr_upd hs rfl (by rw [Nat.add_comm]))))⟩)
    rw [hm, hc1, hc0, s1, s0]
    rfl
theorem sr_fc {post : St2 → Prop} {c x y z : Int32} {a1 a2 a3 a4 a5 a6 : Nat → Int32} (H : ∀ a6', (∀ j, j < 12 → a6' j = sr_R x y z j) → post (c, a1, a2, a3, a4, a5, a6')) : wpX_findComplete post (c, a1, a2, a3, a4, a5, a6) x y z := by
  refine pk_loop (σ := Nat → Int32) (fun n i s => wX_findComplete_3 post x y z c n (nI i) a1 a2 a3 a4 a5 s) (fun i s => ∀ j, s j = if 0 ≤ j ∧ j < 0 + i then sr_pw x j else a6 j) 12 0 a6 (by omega) sr_upd0 ?_ ?_
  · intro n s hs
    refine pk_le 12 12 (fun _ => sr_fc46 (x := x) (fun j hj => ?_) H) (fun z => absurd z (by omega))
    rw [hs j, if_pos (by omega)]
  · intro n i s hi hs hw
    have hc0 : (nI i).toNatClampNeg = i := nI_clamp (by omega)
    refine pk_le 12 i (fun z => absurd z (by omega)) (fun _ => ?_)
    refine pk_eq i 0 (fun e => ?_) (fun e => ?_)
    · refine ⟨pk_in i 12 hi, nm_r (e' := upd s i (sr_pw x i)) (by rw [hc0, e]; rfl) (nm_r (nI_1 i) (hw _ (sr_upd hs (by omega) (by rw [Nat.zero_add]))))⟩
    · obtain ⟨k, rfl⟩ : ∃ k, i = k + 1 := ⟨i - 1, by omega⟩
      have hk : (nI k).toNatClampNeg = k := nI_clamp (by omega)
      have hm := nI_pred k
      refine ⟨pk_in k 12 (by omega) hm, pk_in (k + 1) 12 hi, nm_r (e' := upd s (k + 1) (sr_pw x (k + 1))) ?_ (nm_r (nI_1 (k + 1)) (hw _ (sr_upd hs (by omega) (by rw [Nat.zero_add]))))⟩
      rw [hm, hc0, hk, hs k, if_pos (by omega)]
      rfl
/-! completeOf, valueOf, value -/
theorem sr_cpl {post : Int32 → Prop} {c p0 x y z : Int32} {a1 a2 a3 a4 a5 a6 : Nat → Int32} (h6 : ∀ j, j < 12 → a6 j = sr_R x y z j) (d k : Nat) (hd : d < 12) (hk : k ≤ 2) (hp : p0 = nI d - nI k) (H : post (sr_h x y z d k)) : wpX_completeOf post (c, a1, a2, a3, a4, a5, a6) p0 := by
  subst hp
  rw [sr_h] at H
  by_cases e : d < k
  · rw [if_pos e] at H
    have hn := pk_sneg (a := d) (b := k) (by omega) e
    exact br_f (fun h => absurd (Int32.lt_iff_toInt_lt.mp hn) (Int.not_lt.mpr (Int32.le_iff_toInt_le.mp h))) H
  · rw [if_neg e] at H
    rw [pk_sub (by omega)]
    refine br_t (nI_pos' (by omega)) ⟨pk_in (d - k) 12 (by omega), ?_⟩
    rw [nI_clamp (by omega), h6 _ (by omega)]
    exact H
theorem sr_s0 (d : Nat) : nI d = nI d - nI 0 := by
  rw [pk_sub (by omega), Nat.sub_zero]
theorem sr_valueOf {post : Int32 → Prop} {x y z : Int32} {a1 a2 a3 a4 a5 a6 : Nat → Int32} (K : sr_ok 53 a1 a2 a3) (h6 : ∀ j, j < 12 → a6 j = sr_R x y z j) {s : Nat} (hs : s < 53) (H : post (sr_S x y z s)) : wpX_valueOf post (nI 53, a1, a2, a3, a4, a5, a6) (nI s) := by
  obtain ⟨h1, h2, h3, ht⟩ := sr_tab s hs
  obtain ⟨k1, k2, k3⟩ := K s hs
  have hz : sr_A s + sr_B s + sr_C s ≤ 9 := h3
  have hc : (nI s).toNatClampNeg = s := nI_clamp (by omega)
  unfold wpX_valueOf
  dsimp only
  refine ⟨pk_in s 60 (by omega), nm_r (by rw [hc, k1]) ⟨pk_in s 60 (by omega), nm_r (by rw [hc, k2]) ⟨pk_in s 60 (by omega), nm_r (by rw [hc, k3]) ?_⟩⟩⟩
  refine sr_cpl h6 (sr_A s) 0 (by omega) (by omega) (sr_s0 _) ?_
  refine sr_cpl h6 (sr_A s + 1) 0 (by omega) (by omega) (by rw [nI_1]; exact sr_s0 _) ?_
  refine sr_cpl h6 (sr_A s + 2) 0 (by omega) (by omega) (by rw [show (2 : Int32) = nI 2 from rfl, nI_add]; exact sr_s0 _) ?_
  refine sr_cpl h6 (sr_B s) 1 (by omega) (by omega) rfl ?_
  refine sr_cpl h6 (sr_B s) 0 (by omega) (by omega) (sr_s0 _) ?_
  refine sr_cpl h6 (sr_B s + 1) 0 (by omega) (by omega) (by rw [nI_1]; exact sr_s0 _) ?_
  refine sr_cpl h6 (sr_C s) 2 (by omega) (by omega) rfl ?_
  refine sr_cpl h6 (sr_C s) 1 (by omega) (by omega) rfl ?_
  refine sr_cpl h6 (sr_C s) 0 (by omega) (by omega) (sr_s0 _) ?_
  exact H
theorem sr_value {post : Int32 → St2 → Prop} {x y z : Int32} {a1 a2 a3 a4 a5 a6 : Nat → Int32} (K : sr_ok 53 a1 a2 a3) (e : Nat) (he : e ≤ 1) (v : Int32) (hv : sr_sum (fun j => a4 (60 * e + j) * sr_S x y z j) 53 = v) (H : ∀ a6', post v (nI 53, a1, a2, a3, a4, a5, a6')) : wpX_value post (nI 53, a1, a2, a3, a4, a5, a6) (nI e) x y z := by
  unfold wpX_value
  dsimp only
  refine sr_bad he (br_t rfl (sr_fc (fun b6 h6 => ?_)))
  refine pk_loop (σ := Int32) (fun n i s => wX_value_24 post (nI e) (nI 53) a1 a2 a3 a4 a5 b6 n s (nI i)) (fun i s => s = sr_sum (fun j => a4 (60 * e + j) * sr_S x y z j) i) 53 0 0 (by omega) rfl ?_ ?_
  · intro n s hs
    subst hs
    exact pk_le 53 53 (fun _ => by rw [hv]; exact H b6) (fun z => absurd z (by omega))
  · intro n i s hi hs hw
    subst hs
    exact pk_le 53 i (fun z => absurd z (by omega)) (fun _ => sr_valueOf K h6 hi (sr_get he (by omega) (nm_e (nm_r (nI_1 i) (hw _ rfl)))))
theorem sr_inner {post : Int32 → Prop} {a1 a2 a3 a4 a5 a6 : Nat → Int32} (v : Int32) (hv : sr_sum (fun j => a4 j * a4 (60 + j)) 53 = v) (H : post v) : wpX_inner post (nI 53, a1, a2, a3, a4, a5, a6) := by
  refine pk_loop (σ := Int32) (fun n i s => wX_inner_4 post (nI 53) a1 a2 a3 a4 a5 a6 n s (nI i)) (fun i s => s = sr_sum (fun j => a4 j * a4 (60 + j)) i) 53 0 0 (by omega) rfl ?_ ?_
  · intro n s hs
    subst hs
    exact pk_le 53 53 (fun _ => by rw [hv]; exact H) (fun z => absurd z (by omega))
  · intro n i s hi hs hw
    subst hs
    refine pk_le 53 i (fun z => absurd z (by omega)) (fun _ => ?_)
    refine sr_get (e := 0) (by omega) (by omega) ?_
    refine sr_get (e := 1) (by omega) (by omega) ?_
    refine nm_e (nm_r (nI_1 i) (hw _ ?_))
    rw [sr_sum, Nat.mul_zero, Nat.zero_add, Nat.mul_one]
end
section
/-! Part 06: the walks of sizeOf, degreeOf, degree, clearMade, keepMade, fits, countFillings, multiply, product, number -/
theorem sr_sizeOf {post : Int32 → Prop} {c : Int32} {a1 a2 a3 a4 a5 a6 : Nat → Int32} (K : sr_ok 53 a1 a2 a3) {s : Nat} (hs : s < 53) (H : post (nI (sr_z s))) : wpX_sizeOf post (c, a1, a2, a3, a4, a5, a6) (nI s) := by
  obtain ⟨k1, k2, k3⟩ := K s hs
  have hc : (nI s).toNatClampNeg = s := nI_clamp (by omega)
  unfold wpX_sizeOf
  dsimp only
  rw [hc, k1, k2, k3, nI_add, nI_add]
  exact ⟨pk_in s 60 (by omega), pk_in s 60 (by omega), pk_in s 60 (by omega), H⟩
/-- what degreeOf may answer -/
def sr_deg (a4 : Nat → Int32) (e i : Nat) (r : Int32) : Prop := (r = -4 ∧ ∀ j, j < i → a4 (60 * e + j) = 0) ∨ ∃ j, j < 53 ∧ a4 (60 * e + j) ≠ 0 ∧ r = nI (sr_z j)
theorem sr_degreeOf {post : Int32 → Prop} {a1 a2 a3 a4 a5 a6 : Nat → Int32} (K : sr_ok 53 a1 a2 a3) (e : Nat) (he : e ≤ 1) (H : ∀ r, sr_deg a4 e 53 r → post r) : wpX_degreeOf post (nI 53, a1, a2, a3, a4, a5, a6) (nI e) := by
  refine pk_loop (σ := Int32) (fun n i s => wX_degreeOf_5 post (nI e) (nI 53) a1 a2 a3 a4 a5 a6 n s (nI i)) (fun i s => sr_deg a4 e i s) 53 0 (-4) (by omega) (Or.inl ⟨rfl, fun j hj => absurd hj (by omega)⟩) ?_ ?_
  · intro n s hs
    exact pk_le 53 53 (fun _ => H s hs) (fun z => absurd z (by omega))
  · intro n i s hi hs hw
    obtain ⟨_, _, zi, _⟩ := sr_tab i hi
    refine pk_le 53 i (fun z => absurd z (by omega)) (fun _ => ?_)
    refine sr_sizeOf K hi (sr_get he (by omega) ?_)
    refine br_c (fun h0 => nm_r (nI_1 i) (hw s ?_)) (fun h => br_c (fun hle => nm_r (nI_1 i) (hw s ?_)) (fun _ => nm_r (nI_1 i) (hw _ (Or.inr ⟨i, hi, h, rfl⟩))))
    · rcases hs with ⟨h1, h2⟩ | h1
      · refine Or.inl ⟨h1, fun j hj => ?_⟩
        by_cases ej : j = i
        · rw [ej]
          exact h0
        · exact h2 j (by omega)
      · exact Or.inr h1
    · rcases hs with ⟨h1, h2⟩ | h1
      · rw [h1, Int32.le_iff_toInt_le, nI_toInt (by omega)] at hle
        have : (-4 : Int32).toInt = -4 := by decide
        omega
      · exact Or.inr h1
theorem sr_degree {post : Int32 → Prop} {a1 a2 a3 a4 a5 a6 : Nat → Int32} (K : sr_ok 53 a1 a2 a3) (e : Nat) (he : e ≤ 1) (H : ∀ r, sr_deg a4 e 53 r → post r) : wpX_degree post (nI 53, a1, a2, a3, a4, a5, a6) (nI e) := by
  unfold wpX_degree
  dsimp only
  exact sr_bad he (br_t rfl (sr_degreeOf K e he H))
theorem sr_clear {post : St2 → Prop} {c : Int32} {a1 a2 a3 a4 a5 a6 : Nat → Int32} (H : ∀ a5', (∀ j, j < 60 → a5' j = 0) → post (c, a1, a2, a3, a4, a5', a6)) : wpX_clearMade post (c, a1, a2, a3, a4, a5, a6) := by
  refine pk_loop (σ := Nat → Int32) (fun n i s => wX_clearMade_2 post c n (nI i) a1 a2 a3 a4 s a6) (fun i s => ∀ j, s j = if 0 ≤ j ∧ j < 0 + i then (fun _ => 0) j else a5 j) 60 0 a5 (by omega) sr_upd0 ?_ ?_
  · intro n s hs
    exact pk_le 60 60 (fun _ => H s (fun j hj => by rw [hs j, if_pos (by omega)])) (fun z => absurd z (by omega))
  · intro n i s hi hs hw
    exact pk_le 60 i (fun z => absurd z (by omega)) (fun _ => ⟨pk_in i 60 hi, nm_r (e' := upd s i 0) (by rw [nI_clamp (by omega)]) (nm_r (nI_1 i) (hw _ (sr_upd hs (by omega) rfl)))⟩)
theorem sr_keep {post : St2 → Prop} {c : Int32} {a1 a2 a3 a4 a5 a6 : Nat → Int32} (e : Nat) (he : e ≤ 1) (H : ∀ a4', (∀ j, a4' j = if 60 * e ≤ j ∧ j < 60 * e + 60 then a5 (j - 60 * e) else a4 j) → post (c, a1, a2, a3, a4', a5, a6)) : wpX_keepMade post (c, a1, a2, a3, a4, a5, a6) (nI e) := by
  refine pk_loop (σ := Nat → Int32) (fun n i s => wX_keepMade_2 post (nI e) c n (nI i) a1 a2 a3 s a5 a6) (fun i s => ∀ j, s j = if 60 * e ≤ j ∧ j < 60 * e + i then (fun k => a5 (k - 60 * e)) j else a4 j) 60 0 a4 (by omega) sr_upd0 ?_ ?_
  · intro n s hs
    exact pk_le 60 60 (fun _ => H s hs) (fun z => absurd z (by omega))
  · intro n i s hi hs hw
    refine pk_le 60 i (fun z => absurd z (by omega)) (fun _ => ⟨pk_in i 60 hi, pk_in (60 * e + i) 120 (by omega) (sr_60 e i), nm_r (e' := upd s (60 * e + i) (a5 i)) ?_ (nm_r (nI_1 i) (hw _ (sr_upd hs rfl ?_)))⟩)
    · rw [sr_60, nI_clamp (by omega), nI_clamp (by omega)]
    · show a5 i = a5 (60 * e + i - 60 * e)
      rw [show 60 * e + i - 60 * e = i by omega]
/-! fits -/
theorem sr_nI (n : Nat) : nI n = Int32.ofInt n := Int32.ofInt_eq_ofNat.symm
theorem sr_toI {a : Int} (h : -1000 ≤ a ∧ a ≤ 1000) : (Int32.ofInt a).toInt = a := Int32.toInt_ofInt_of_le (by omega) (by omega)
theorem sr_ilt {x y : Int32} {A B : Prop} (a b : Int) (f : a < b → A) (g : ¬ a < b → B) (hx : x = Int32.ofInt a) (hy : y = Int32.ofInt b) (ha : -1000 ≤ a ∧ a ≤ 1000) (hb : -1000 ≤ b ∧ b ≤ 1000) : (x < y → A) ∧ (¬ x < y → B) := by
  subst hx hy
  rw [Int32.lt_iff_toInt_lt, sr_toI ha, sr_toI hb]
  exact ⟨f, g⟩
theorem sr_ieq {x y : Int32} {A B : Prop} (a b : Int) (f : a = b → A) (g : ¬ a = b → B) (hx : x = Int32.ofInt a) (hy : y = Int32.ofInt b) (ha : -1000 ≤ a ∧ a ≤ 1000) (hb : -1000 ≤ b ∧ b ≤ 1000) : (x = y → A) ∧ (¬ x = y → B) := by
  subst hx hy
  rw [← Int32.toInt_inj, sr_toI ha, sr_toI hb]
  exact ⟨f, g⟩
def sr_b (b : Bool) : Int32 := if b then 1 else 0
theorem sr_f218 {post : Int32 → Prop} {c : Int32} {a1 a2 a3 a4 a5 a6 : Nat → Int32} {o t d : Bool} (H1 : o = true → t = true → d = true → post 1) (H0 : ¬ (o = true ∧ t = true ∧ d = true) → post 0) : wX_fits_218 post (sr_b o) (sr_b t) (sr_b d) c a1 a2 a3 a4 a5 a6 := by
  unfold wX_fits_218
  cases o with
  | false => exact br_t rfl (H0 (by simp))
  | true =>
    refine br_f (by decide) ?_
    cases t with
    | false => exact br_t rfl (H0 (by simp))
    | true =>
      refine br_f (by decide) ?_
      cases d with
      | false => exact br_t rfl (H0 (by simp))
      | true => exact br_f (by decide) (H1 rfl rfl rfl)
theorem sr_f217 {post : Int32 → Prop} {c : Int32} {a1 a2 a3 a4 a5 a6 : Nat → Int32} {o t : Bool} (H0 : post 0) : wX_fits_217 post (sr_b o) (sr_b t) c a1 a2 a3 a4 a5 a6 := by
  unfold wX_fits_217
  exact sr_f218 (d := false) (fun _ _ h => Bool.noConfusion h) (fun _ => H0)
theorem sr_f184 {post : Int32 → Prop} {c : Int32} {a1 a2 a3 a4 a5 a6 : Nat → Int32} {o t : Bool} {n n11 n22 n23 n33 : Int} {x4 x5 x7 x8 x9 : Int32} (e4 : x4 = Int32.ofInt n) (e5 : x5 = Int32.ofInt n11) (e7 : x7 = Int32.ofInt n22) (e8 : x8 = Int32.ofInt n23) (e9 : x9 = Int32.ofInt n33)
    (hb : (-100 ≤ n ∧ n ≤ 100) ∧ (-100 ≤ n11 ∧ n11 ≤ 100) ∧ (-100 ≤ n22 ∧ n22 ≤ 100) ∧ (-100 ≤ n23 ∧ n23 ≤ 100) ∧ (-100 ≤ n33 ∧ n33 ≤ 100))
    (H1 : o = true → t = true → (n22 ≤ n11 ∧ n33 ≤ n22 ∧ n22 + n23 ≤ n11 + n) → post 1) (H0 : ¬ (o = true ∧ t = true ∧ (n22 ≤ n11 ∧ n33 ≤ n22 ∧ n22 + n23 ≤ n11 + n)) → post 0) : wX_fits_184 post x4 x5 x7 x8 x9 (sr_b o) (sr_b t) c a1 a2 a3 a4 a5 a6 := by
  unfold wX_fits_184
  refine sr_ilt n11 n22 (fun z => sr_f217 (H0 (fun h => by omega))) (fun z1 => ?_) e5 e7 (by omega) (by omega)
  refine sr_ilt n22 n33 (fun z => sr_f217 (H0 (fun h => by omega))) (fun z2 => ?_) e7 e9 (by omega) (by omega)
  refine sr_ilt (n11 + n) (n22 + n23) (fun z => sr_f217 (H0 (fun h => by omega))) (fun z3 => ?_) (by rw [e5, e4, Int32.ofInt_add]) (by rw [e7, e8, Int32.ofInt_add]) (by omega) (by omega)
  have hq : n22 ≤ n11 ∧ n33 ≤ n22 ∧ n22 + n23 ≤ n11 + n := by omega
  exact sr_f218 (d := true) (fun ho ht _ => H1 ho ht hq) (fun h => H0 (fun g => h ⟨g.1, g.2.1, rfl⟩))
theorem sr_f153 {post : Int32 → Prop} {c : Int32} {a1 a2 a3 a4 a5 a6 : Nat → Int32} {o : Bool} {p : Nat} {pb pc n n11 n13 n22 n23 n33 : Int} {x4 x5 x6 x7 x8 x9 : Int32} (hp : p < 53) (kb : a2 p = Int32.ofInt pb) (kc : a3 p = Int32.ofInt pc) (e4 : x4 = Int32.ofInt n) (e5 : x5 = Int32.ofInt n11) (e6 : x6 = Int32.ofInt n13) (e7 : x7 = Int32.ofInt n22) (e8 : x8 = Int32.ofInt n23) (e9 : x9 = Int32.ofInt n33)
    (hb : (-100 ≤ n ∧ n ≤ 100) ∧ (-100 ≤ n11 ∧ n11 ≤ 100) ∧ (-100 ≤ n22 ∧ n22 ≤ 100) ∧ (-100 ≤ n23 ∧ n23 ≤ 100) ∧ (-100 ≤ n33 ∧ n33 ≤ 100)) (hb2 : (-100 ≤ n13 ∧ n13 ≤ 100) ∧ (-100 ≤ pb ∧ pb ≤ 100) ∧ (-100 ≤ pc ∧ pc ≤ 100))
    (H1 : o = true → (pc + n13 + n23 ≤ pb + n ∧ n22 ≤ n11 ∧ n33 ≤ n22 ∧ n22 + n23 ≤ n11 + n) → post 1) (H0 : ¬ (o = true ∧ (pc + n13 + n23 ≤ pb + n ∧ n22 ≤ n11 ∧ n33 ≤ n22 ∧ n22 + n23 ≤ n11 + n)) → post 0) : wX_fits_153 post (nI p) x4 x5 x6 x7 x8 x9 (sr_b o) c a1 a2 a3 a4 a5 a6 := by
  have hc : (nI p).toNatClampNeg = p := nI_clamp (by omega)
  unfold wX_fits_153
  rw [hc, kb, kc]
  refine ⟨pk_in p 60 (by omega), pk_in p 60 (by omega), ?_⟩
  refine sr_ilt (pb + n) (pc + n13 + n23) (fun z => ?_) (fun z => ?_) (by rw [e4, Int32.ofInt_add]) (by rw [e6, e8, Int32.ofInt_add, Int32.ofInt_add]) (by omega) (by omega)
  · exact sr_f184 (t := false) e4 e5 e7 e8 e9 hb (fun _ h => Bool.noConfusion h) (fun _ => H0 (fun h => by omega))
  · exact sr_f184 (t := true) e4 e5 e7 e8 e9 hb (fun ho _ h => H1 ho ⟨by omega, h⟩) (fun h => H0 (fun g => h ⟨g.1, rfl, g.2.2⟩))
theorem sr_fitsP {post : Int32 → Prop} {c : Int32} {a1 a2 a3 a4 a5 a6 : Nat → Int32} {p q r : Nat} (hp : p < 53) (hq : q < 53) (hr : r < 53) {n pa pb pc qa qb qc ra rb rc : Int} {x : Int32} (ex : x = Int32.ofInt n)
    (pA : a1 p = Int32.ofInt pa) (pB : a2 p = Int32.ofInt pb) (pC : a3 p = Int32.ofInt pc) (qA : a1 q = Int32.ofInt qa) (qB : a2 q = Int32.ofInt qb) (qC : a3 q = Int32.ofInt qc) (rA : a1 r = Int32.ofInt ra) (rB : a2 r = Int32.ofInt rb) (rC : a3 r = Int32.ofInt rc)
    (hb : (0 ≤ n ∧ n ≤ 9) ∧ (0 ≤ pa ∧ pa ≤ 9) ∧ (0 ≤ pb ∧ pb ≤ 9) ∧ (0 ≤ pc ∧ pc ≤ 9) ∧ (0 ≤ qa ∧ qa ≤ 9) ∧ (0 ≤ qb ∧ qb ≤ 9) ∧ (0 ≤ qc ∧ qc ≤ 9) ∧ (0 ≤ ra ∧ ra ≤ 9) ∧ (0 ≤ rb ∧ rb ≤ 9) ∧ (0 ≤ rc ∧ rc ≤ 9))
    (P : Prop) (hP : P ↔ (0 ≤ ra - pa ∧ 0 ≤ qa - (ra - pa) - n ∧ 0 ≤ rb - pb - n ∧ 0 ≤ qb - (rb - pb - n) ∧ qa - (ra - pa) - n + (qb - (rb - pb - n)) + qc = rc - pc ∧ pb + n ≤ pa ∧ pc + (qa - (ra - pa) - n) ≤ pb ∧ pc + (qa - (ra - pa) - n) + (qb - (rb - pb - n)) ≤ pb + n ∧ rb - pb - n ≤ ra - pa ∧ qc ≤ rb - pb - n ∧ rb - pb - n + (qb - (rb - pb - n)) ≤ ra - pa + n))
    (H1 : P → post 1) (H0 : ¬ P → post 0) : wpX_fits post (c, a1, a2, a3, a4, a5, a6) (nI p) (nI q) (nI r) x := by
  obtain ⟨n11, h11⟩ : ∃ v : Int, v = ra - pa := ⟨_, rfl⟩
  obtain ⟨n13, h13⟩ : ∃ v : Int, v = qa - n11 - n := ⟨_, rfl⟩
  obtain ⟨n22, h22⟩ : ∃ v : Int, v = rb - pb - n := ⟨_, rfl⟩
  obtain ⟨n23, h23⟩ : ∃ v : Int, v = qb - n22 := ⟨_, rfl⟩
  have hP : P ↔ (0 ≤ n11 ∧ 0 ≤ n13 ∧ 0 ≤ n22 ∧ 0 ≤ n23 ∧ n13 + n23 + qc = rc - pc ∧ pb + n ≤ pa ∧ pc + n13 ≤ pb ∧ pc + n13 + n23 ≤ pb + n ∧ n22 ≤ n11 ∧ qc ≤ n22 ∧ n22 + n23 ≤ n11 + n) := by
    rw [h23, h22, h13, h11]
    exact hP
  have cp : (nI p).toNatClampNeg = p := nI_clamp (by omega)
  have cq : (nI q).toNatClampNeg = q := nI_clamp (by omega)
  have cr : (nI r).toNatClampNeg = r := nI_clamp (by omega)
  have hB : (-100 ≤ n ∧ n ≤ 100) ∧ (-100 ≤ n11 ∧ n11 ≤ 100) ∧ (-100 ≤ n22 ∧ n22 ≤ 100) ∧ (-100 ≤ n23 ∧ n23 ≤ 100) ∧ (-100 ≤ qc ∧ qc ≤ 100) := by omega
  have hB2 : (-100 ≤ n13 ∧ n13 ≤ 100) ∧ (-100 ≤ pb ∧ pb ≤ 100) ∧ (-100 ≤ pc ∧ pc ≤ 100) := by omega
  unfold wpX_fits
  dsimp only
  rw [cp, cq, cr, pA, pB, pC, qA, qB, qC, rA, rB, rC, ex]
  have ip : vp_in (nI p) 60 := pk_in p 60 (by omega)
  have iq : vp_in (nI q) 60 := pk_in q 60 (by omega)
  have ir : vp_in (nI r) 60 := pk_in r 60 (by omega)
  have e0 : (0 : Int32) = Int32.ofInt 0 := by decide
  refine ⟨ir, ip, nm_r (e' := Int32.ofInt n11) (by rw [h11, Int32.ofInt_sub]) ⟨iq, nm_r (e' := Int32.ofInt n13) (by rw [h13, Int32.ofInt_sub, Int32.ofInt_sub]) ⟨ir, ip, nm_r (e' := Int32.ofInt n22) (by rw [h22, Int32.ofInt_sub, Int32.ofInt_sub]) ⟨iq, nm_r (e' := Int32.ofInt n23) (by rw [h23, Int32.ofInt_sub]) ⟨iq, nm_e ?_⟩⟩⟩⟩⟩
  refine sr_ilt n11 0 (fun z => H0 (fun h => by have := hP.mp h; omega)) (fun z1 => ?_) rfl e0 (by omega) (by omega)
  refine sr_ilt n13 0 (fun z => H0 (fun h => by have := hP.mp h; omega)) (fun z2 => ?_) rfl e0 (by omega) (by omega)
  refine sr_ilt n22 0 (fun z => H0 (fun h => by have := hP.mp h; omega)) (fun z3 => ?_) rfl e0 (by omega) (by omega)
  refine sr_ilt n23 0 (fun z => H0 (fun h => by have := hP.mp h; omega)) (fun z4 => ⟨ir, ip, ?_⟩) rfl e0 (by omega) (by omega)
  refine sr_ieq (n13 + n23 + qc) (rc - pc) (fun z5 => ⟨ip, ip, ?_⟩) (fun z => H0 (fun h => by have := hP.mp h; omega)) (by rw [Int32.ofInt_add, Int32.ofInt_add]) (by rw [Int32.ofInt_sub]) (by omega) (by omega)
  have bad : ¬ (pb + n ≤ pa ∧ pc + n13 ≤ pb) → wX_fits_152 post (nI p) (Int32.ofInt n) (Int32.ofInt n11) (Int32.ofInt n13) (Int32.ofInt n22) (Int32.ofInt n23) (Int32.ofInt qc) c a1 a2 a3 a4 a5 a6 := by
    intro hno
    unfold wX_fits_152
    exact sr_f153 (o := false) hp pB pC rfl rfl rfl rfl rfl rfl hB hB2 (fun h => Bool.noConfusion h) (fun _ => H0 (fun h => by have := hP.mp h; omega))
  refine sr_ilt pa (pb + n) (fun z => bad (by omega)) (fun z6 => ⟨ip, ip, ?_⟩) rfl (by rw [Int32.ofInt_add]) (by omega) (by omega)
  refine sr_ilt pb (pc + n13) (fun z => bad (by omega)) (fun z7 => ?_) rfl (by rw [Int32.ofInt_add]) (by omega) (by omega)
  exact sr_f153 (o := true) hp pB pC rfl rfl rfl rfl rfl rfl hB hB2 (fun _ h => H1 (hP.mpr (by omega))) (fun h => H0 (fun g => h ⟨rfl, by have := hP.mp g; omega⟩))
theorem sr_fits {post : Int32 → Prop} {c : Int32} {a1 a2 a3 a4 a5 a6 : Nat → Int32} (K : sr_ok 53 a1 a2 a3) {p q r n : Nat} (hp : p < 53) (hq : q < 53) (hr : r < 53) (hn : n ≤ 9) (H1 : sr_fit p q r n = true → post 1) (H0 : sr_fit p q r n = false → post 0) : wpX_fits post (c, a1, a2, a3, a4, a5, a6) (nI p) (nI q) (nI r) (nI n) := by
  obtain ⟨pA, pB, pC⟩ := K p hp
  obtain ⟨qA, qB, qC⟩ := K q hq
  obtain ⟨rA, rB, rC⟩ := K r hr
  have lp := sr_small hp
  have lq := sr_small hq
  have lr := sr_small hr
  rw [sr_nI] at pA pB pC qA qB qC rA rB rC
  refine sr_fitsP hp hq hr (sr_nI n) pA pB pC qA qB qC rA rB rC (by omega) (sr_fit p q r n = true) ?_ H1 (fun h => H0 (Bool.eq_false_iff.mpr h))
  simp only [sr_fit, Bool.and_eq_true, decide_eq_true_eq]
theorem sr_count {post : Int32 → Prop} {a1 a2 a3 a4 a5 a6 : Nat → Int32} (K : sr_ok 53 a1 a2 a3) {p q r : Nat} (hp : p < 53) (hq : q < 53) (hr : r < 53) (H : post (nI (sr_c p q r))) : wpX_countFillings post (nI 53, a1, a2, a3, a4, a5, a6) (nI p) (nI q) (nI r) := by
  have lp := sr_small hp
  have lr := sr_small hr
  have cp : (nI p).toNatClampNeg = p := nI_clamp (by omega)
  have cr : (nI r).toNatClampNeg = r := nI_clamp (by omega)
  have ed : a2 r - a2 p = Int32.ofInt ((sr_B r : Int) - sr_B p) := by rw [(K r hr).2.1, (K p hp).2.1, sr_nI, sr_nI, Int32.ofInt_sub]
  refine pk_loop (σ := Int32) (fun n i s => wX_countFillings_6 post (nI p) (nI q) (nI r) (nI 53) a1 a2 a3 a4 a5 a6 n s (nI i)) (fun i s => s = nI (sr_cn (fun n => sr_fit p q r n) i)) (sr_B r + 1 - sr_B p) 0 0 (by omega) rfl ?_ ?_
  · intro n s hs
    subst hs
    refine ⟨pk_in r 60 (by omega), pk_in p 60 (by omega), ?_⟩
    exact sr_ilt ((sr_B r : Int) - sr_B p) ((sr_B r + 1 - sr_B p : Nat) : Int) (fun _ => H) (fun z => absurd (show (sr_B r : Int) - sr_B p < ((sr_B r + 1 - sr_B p : Nat) : Int) by omega) z) (by rw [cr, cp, ed]) (sr_nI _) (by omega) (by omega)
  · intro n i s hi hs hw
    subst hs
    refine ⟨pk_in r 60 (by omega), pk_in p 60 (by omega), ?_⟩
    refine sr_ilt ((sr_B r : Int) - sr_B p) (i : Int) (fun z => absurd z (by omega)) (fun _ => ?_) (by rw [cr, cp, ed]) (sr_nI _) (by omega) (by omega)
    refine sr_fits K hp hq hr (by omega) (fun h => ?_) (fun h => ?_)
    · exact br_f (by decide) (nm_r (nI_1 _) (nm_r (nI_1 i) (hw _ (by rw [sr_cn, h, cond_true]))))
    · exact br_t rfl (nm_r (nI_1 i) (hw _ (by rw [sr_cn, h, cond_false])))
theorem sr_number {post : Int32 → Prop} {a1 a2 a3 a4 a5 a6 : Nat → Int32} (K : sr_ok 53 a1 a2 a3) {p q r : Nat} (hp : p < 53) (hq : q < 53) (hr : r < 53) (H : post (nI (sr_c p q r))) : wpX_number post (nI 53, a1, a2, a3, a4, a5, a6) (nI (sr_t p)) (nI (sr_t q)) (nI (sr_t r)) := by
  unfold wpX_number
  dsimp only
  exact sr_shapeOf K hp (sr_shapeOf K hq (sr_shapeOf K hr (br_f (nI_pos (by omega)) (br_f (nI_pos (by omega)) (br_t (nI_pos' (by omega)) (sr_count K hp hq hr H))))))
/-! multiply, product -/
theorem sr_multiply {post : St2 → Prop} {a1 a2 a3 a4 a5 a6 : Nat → Int32} (K : sr_ok 53 a1 a2 a3) {p q : Nat} (hp : p < 53) (hq : q < 53) (v : Int32) (H : ∀ a5', (∀ r, r < 53 → a5' r = a5 r + v * nI (sr_c p q r)) → post (nI 53, a1, a2, a3, a4, a5', a6)) : wpX_multiply post (nI 53, a1, a2, a3, a4, a5, a6) (nI p) (nI q) v := by
  obtain ⟨_, _, zp, _⟩ := sr_tab p hp
  obtain ⟨_, _, zq, _⟩ := sr_tab q hq
  unfold wpX_multiply
  dsimp only
  refine sr_sizeOf K hp (sr_sizeOf K hq (nm_r (nI_add _ _) ?_))
  refine pk_loop (σ := Nat → Int32) (fun n i s => wX_multiply_16 post (nI p) (nI q) v (nI (sr_z p + sr_z q)) (nI 53) n (nI i) a1 a2 a3 a4 s a6) (fun i s => ∀ j, s j = if 0 ≤ j ∧ j < 0 + i then (fun r => a5 r + v * nI (sr_c p q r)) j else a5 j) 53 0 a5 (by omega) sr_upd0 ?_ ?_
  · intro n s hs
    exact pk_le 53 53 (fun _ => H s (fun r hr => by rw [hs r, if_pos (by omega)])) (fun z => absurd z (by omega))
  · intro n i s hi hs hw
    obtain ⟨_, _, zi, _⟩ := sr_tab i hi
    have ci : (nI i).toNatClampNeg = i := nI_clamp (by omega)
    have si : s i = a5 i := by rw [hs i, if_neg (by omega)]
    refine pk_le 53 i (fun z => absurd z (by omega)) (fun _ => sr_sizeOf K hi ?_)
    refine pk_eq (sr_z i) (sr_z p + sr_z q) (fun _ => sr_count K hp hq hi ?_) (fun hz => nm_r (nI_1 i) (hw s (fun j => ?_)))
    · exact ⟨pk_in i 60 (by omega), pk_in i 60 (by omega), nm_r (e' := upd s i (a5 i + v * nI (sr_c p q i))) (by rw [ci, si]) (nm_r (nI_1 i) (hw _ (sr_upd hs (by omega) (by rw [Nat.zero_add]))))⟩
    · by_cases e : j = i
      · rw [e, si, if_pos (by omega)]
        show a5 i = a5 i + v * nI (sr_c p q i)
        rw [sr_c_z hz, nI_0]
        grind
      · rw [hs j]
        by_cases e2 : 0 ≤ j ∧ j < 0 + i
        · rw [if_pos e2, if_pos (by omega)]
        · rw [if_neg e2, if_neg (by omega)]
theorem sr_prod37 {post : Int32 → St2 → Prop} {a1 a2 a3 a4 a5 a6 : Nat → Int32} (K : sr_ok 53 a1 a2 a3) (h5 : ∀ j, j < 60 → a5 j = 0)
    (H : ∀ a4' a5', (∀ r, r < 53 → a4' r = sr_sum (fun k => (a4 (k / 53) * a4 (60 + k % 53)) * nI (sr_c (k / 53) (k % 53) r)) 2809) → (∀ j, j < 53 → a4' (60 + j) = a4 (60 + j)) → post 0 (nI 53, a1, a2, a3, a4', a5', a6)) : ∃ n, wX_product_37 post n 0 (nI 53) a1 a2 a3 a4 a5 a6 := by
  have e2 : nI 53 * nI 53 = nI 2809 := pk_mul 53 53
  have e0 : ¬ nI 53 = 0 := nI_ne0 (by omega) (by omega)
  refine pk_loop (σ := Nat → Int32) (fun n i s => wX_product_37 post n (nI i) (nI 53) a1 a2 a3 a4 s a6) (fun i s => ∀ r, r < 53 → s r = sr_sum (fun k => (a4 (k / 53) * a4 (60 + k % 53)) * nI (sr_c (k / 53) (k % 53) r)) i) 2809 0 a5 (by omega) (fun r hr => h5 r (by omega)) ?_ ?_
  · intro n s hs
    refine pk_le 2809 2809 (fun _ => ?_) (fun z => absurd z (by omega)) e2 rfl
    refine sr_keep 0 (by omega) (fun b4 h4 => H b4 s (fun r hr => ?_) (fun j hj => ?_))
    · rw [h4 r, if_pos (by omega), ← hs r hr]
      rfl
    · rw [h4 (60 + j), if_neg (by omega)]
  · intro n i s hi hs hw
    have ed : nI i / nI 53 = nI (i / 53) := pk_div (by omega) (by omega) (by omega)
    have em : nI i - nI i / nI 53 * nI 53 = nI (i % 53) := pk_rem (by omega) (by omega) (by omega)
    have ld : i / 53 < 53 := by omega
    have lm : i % 53 < 53 := by omega
    refine pk_le 2809 i (fun z => absurd z (by omega)) (fun _ => ⟨e0, ?_⟩) e2 rfl
    rw [em, ed]
    refine sr_get (e := 0) (by omega) (by omega) ⟨e0, ?_⟩
    refine sr_get (e := 1) (by omega) (by omega) ?_
    rw [Nat.mul_zero, Nat.zero_add, Nat.mul_one]
    refine nm_e (br_c (fun h => nm_r (nI_1 i) (hw s (fun r hr => ?_))) (fun h => ⟨e0, e0, ?_⟩))
    · rw [sr_sum, ← hs r hr, h]
      grind
    · refine sr_multiply K ld lm _ (fun b5 h5 => nm_r (nI_1 i) (hw b5 (fun r hr => ?_)))
      rw [h5 r hr, hs r hr, sr_sum]
theorem sr_prod {post : Int32 → St2 → Prop} {a1 a2 a3 a4 a5 a6 : Nat → Int32} (K : sr_ok 53 a1 a2 a3) (hd : ∀ i j, i < 53 → j < 53 → a4 i ≠ 0 → a4 (60 + j) ≠ 0 → sr_z i + sr_z j ≤ 9)
    (H : ∀ a4' a5', (∀ r, r < 53 → a4' r = sr_sum (fun k => (a4 (k / 53) * a4 (60 + k % 53)) * nI (sr_c (k / 53) (k % 53) r)) 2809) → (∀ j, j < 53 → a4' (60 + j) = a4 (60 + j)) → post 0 (nI 53, a1, a2, a3, a4', a5', a6)) : wpX_product post (nI 53, a1, a2, a3, a4, a5, a6) := by
  have go : wX_product_31 post (nI 53) a1 a2 a3 a4 a5 a6 := by
    unfold wX_product_31
    exact sr_clear (fun b5 h5 => sr_prod37 K h5 H)
  unfold wpX_product
  dsimp only
  refine sr_degreeOf K 0 (by omega) (fun r1 h1 => sr_degreeOf K 1 (by omega) (fun r2 h2 => ?_))
  rcases h1 with ⟨h1, _⟩ | ⟨i, hi, n1, h1⟩
  · exact br_t (by rw [h1]; decide) go
  · refine br_c (fun _ => go) (fun _ => ?_)
    rcases h2 with ⟨h2, _⟩ | ⟨j, hj, n2, h2⟩
    · exact br_t (by rw [h2]; decide) go
    · refine br_c (fun _ => go) (fun _ => ?_)
      rw [Nat.mul_zero, Nat.zero_add] at n1
      have := hd i j hi hj n1 n2
      exact pk_le (sr_z i + sr_z j) 9 (fun _ => go) (fun z => absurd z (by omega)) (by rw [h1, h2, nI_add]) rfl
end
section
/-! Part 07: the walks of swap, combine, scale, part -/
theorem sr_60' (i : Nat) : 60 + nI i = nI (60 + i) := nI_add 60 i
theorem sr_swap {post : Int32 → St2 → Prop} {a1 a2 a3 a4 a5 a6 : Nat → Int32} (H : ∀ a4', (∀ j, j < 53 → a4' j = a4 (60 + j) ∧ a4' (60 + j) = a4 j) → post 0 (nI 53, a1, a2, a3, a4', a5, a6)) : wpX_swap post (nI 53, a1, a2, a3, a4, a5, a6) := by
  refine pk_loop (σ := Nat → Int32) (fun n i s => wX_swap_2 post (nI 53) n (nI i) a1 a2 a3 s a5 a6) (fun i s => ∀ j, j < 53 → (j < i → s j = a4 (60 + j) ∧ s (60 + j) = a4 j) ∧ (i ≤ j → s j = a4 j ∧ s (60 + j) = a4 (60 + j))) 53 0 a4 (by omega) (fun j hj => ⟨fun h => absurd h (by omega), fun _ => ⟨rfl, rfl⟩⟩) ?_ ?_
  · intro n s hs
    exact pk_le 53 53 (fun _ => H s (fun j hj => (hs j hj).1 hj)) (fun z => absurd z (by omega))
  · intro n i s hi hs hw
    have ci : (nI i).toNatClampNeg = i := nI_clamp (by omega)
    have cj : (nI (60 + i)).toNatClampNeg = 60 + i := nI_clamp (by omega)
    obtain ⟨u1, u2⟩ := (hs i hi).2 (Nat.le_refl i)
    refine pk_le 53 i (fun z => absurd z (by omega)) (fun _ => ?_)
    rw [sr_60', ci, cj]
    refine ⟨pk_in i 120 (by omega), nm_e ⟨pk_in (60 + i) 120 (by omega), pk_in i 120 (by omega), nm_e ⟨pk_in (60 + i) 120 (by omega), nm_e (nm_r (nI_1 i) (hw _ (fun j hj => ?_)))⟩⟩⟩
    by_cases e : j = i
    · subst e
      refine ⟨fun _ => ⟨?_, ?_⟩, fun h => absurd h (by omega)⟩
      · rw [pk_un (by omega), pk_us, u2]
      · rw [pk_us, u1]
    · rw [pk_un (show j ≠ 60 + i by omega), pk_un e, pk_un (show 60 + j ≠ 60 + i by omega), pk_un (show 60 + j ≠ i by omega)]
      exact ⟨fun h => (hs j hj).1 (by omega), fun h => (hs j hj).2 (by omega)⟩
theorem sr_combine {post : Int32 → St2 → Prop} {a1 a2 a3 a4 a5 a6 : Nat → Int32} (v : Int32) (H : ∀ a4', (∀ j, j < 53 → a4' j = a4 j + v * a4 (60 + j) ∧ a4' (60 + j) = a4 (60 + j)) → post 0 (nI 53, a1, a2, a3, a4', a5, a6)) : wpX_combine post (nI 53, a1, a2, a3, a4, a5, a6) v := by
  refine pk_loop (σ := Nat → Int32) (fun n i s => wX_combine_2 post v (nI 53) n (nI i) a1 a2 a3 s a5 a6) (fun i s => ∀ j, s j = if 0 ≤ j ∧ j < 0 + i then (fun k => a4 k + v * a4 (60 + k)) j else a4 j) 53 0 a4 (by omega) sr_upd0 ?_ ?_
  · intro n s hs
    exact pk_le 53 53 (fun _ => H s (fun j hj => ⟨by rw [hs j, if_pos (by omega)], by rw [hs (60 + j), if_neg (by omega)]⟩)) (fun z => absurd z (by omega))
  · intro n i s hi hs hw
    have ci : (nI i).toNatClampNeg = i := nI_clamp (by omega)
    have cj : (nI (60 + i)).toNatClampNeg = 60 + i := nI_clamp (by omega)
    refine pk_le 53 i (fun z => absurd z (by omega)) (fun _ => ?_)
    rw [sr_60', ci, cj]
    refine ⟨pk_in i 120 (by omega), pk_in (60 + i) 120 (by omega), pk_in i 120 (by omega), nm_r (e' := upd s i (a4 i + v * a4 (60 + i))) ?_ (nm_r (nI_1 i) (hw _ (sr_upd hs (by omega) (by rw [Nat.zero_add]))))⟩
    rw [hs i, hs (60 + i), if_neg (by omega), if_neg (by omega)]
theorem sr_scale {post : Int32 → St2 → Prop} {a1 a2 a3 a4 a5 a6 : Nat → Int32} (e : Nat) (he : e ≤ 1) (v : Int32) (H : ∀ a4', (∀ j, a4' j = if 60 * e ≤ j ∧ j < 60 * e + 53 then a4 j * v else a4 j) → post 0 (nI 53, a1, a2, a3, a4', a5, a6)) : wpX_scale post (nI 53, a1, a2, a3, a4, a5, a6) (nI e) v := by
  unfold wpX_scale
  dsimp only
  refine sr_bad he (br_t rfl ?_)
  refine pk_loop (σ := Nat → Int32) (fun n i s => wX_scale_12 post (nI e) v (nI 53) n (nI i) a1 a2 a3 s a5 a6) (fun i s => ∀ j, s j = if 60 * e ≤ j ∧ j < 60 * e + i then (fun k => a4 k * v) j else a4 j) 53 0 a4 (by omega) sr_upd0 ?_ ?_
  · intro n s hs
    exact pk_le 53 53 (fun _ => H s hs) (fun z => absurd z (by omega))
  · intro n i s hi hs hw
    have ci : (nI (60 * e + i)).toNatClampNeg = 60 * e + i := nI_clamp (by omega)
    refine pk_le 53 i (fun z => absurd z (by omega)) (fun _ => ?_)
    rw [sr_60, ci]
    refine ⟨pk_in (60 * e + i) 120 (by omega), pk_in (60 * e + i) 120 (by omega), nm_r (e' := upd s (60 * e + i) (a4 (60 * e + i) * v)) ?_ (nm_r (nI_1 i) (hw _ (sr_upd hs rfl rfl)))⟩
    rw [hs (60 * e + i), if_neg (by omega)]
theorem sr_part {post : Int32 → St2 → Prop} {a1 a2 a3 a4 a5 a6 : Nat → Int32} (K : sr_ok 53 a1 a2 a3) (d : Nat) (hd : d ≤ 9) (H : ∀ a4', (∀ j, j < 53 → a4' j = (if sr_z j = d then a4 j else 0) ∧ a4' (60 + j) = a4 (60 + j)) → post 0 (nI 53, a1, a2, a3, a4', a5, a6)) : wpX_part post (nI 53, a1, a2, a3, a4, a5, a6) 0 (nI d) := by
  unfold wpX_part
  dsimp only
  refine sr_bad (e := 0) (by omega) (br_t rfl (br_f (nI_pos (by omega)) (pk_le d 9 (fun _ => ?_) (fun z => absurd z (by omega)))))
  refine pk_loop (σ := Nat → Int32) (fun n i s => wX_part_22 post (nI 0) (nI d) (nI 53) n (nI i) a1 a2 a3 s a5 a6) (fun i s => ∀ j, s j = if 0 ≤ j ∧ j < 0 + i then (fun k => if sr_z k = d then a4 k else 0) j else a4 j) 53 0 a4 (by omega) sr_upd0 ?_ ?_
  · intro n s hs
    exact pk_le 53 53 (fun _ => H s (fun j hj => ⟨by rw [hs j, if_pos (by omega)], by rw [hs (60 + j), if_neg (by omega)]⟩)) (fun z => absurd z (by omega))
  · intro n i s hi hs hw
    obtain ⟨_, _, zi, _⟩ := sr_tab i hi
    have e0 : 60 * nI 0 + nI i = nI i := by rw [sr_60, Nat.mul_zero, Nat.zero_add]
    have ci : (nI i).toNatClampNeg = i := nI_clamp (by omega)
    have si : s i = a4 i := by rw [hs i, if_neg (by omega)]
    refine pk_le 53 i (fun z => absurd z (by omega)) (fun _ => sr_sizeOf K hi ?_)
    rw [e0, ci, si]
    refine pk_eq (sr_z i) d (fun h => ⟨pk_in i 120 (by omega), pk_in i 120 (by omega), nm_e (nm_r (nI_1 i) (hw _ (sr_upd hs (by omega) ?_)))⟩) (fun h => ⟨pk_in i 120 (by omega), nm_e (nm_r (nI_1 i) (hw _ (sr_upd hs (by omega) ?_)))⟩)
    · rw [Nat.zero_add, if_pos h]
    · rw [Nat.zero_add, if_neg h]
end
section
/-! Part 08: what the law's sums come to, in plain terms -/
/-- element 0 at the start: m times the shape p -/
def sr_E0 (p : Nat) (m : Int32) (j : Nat) : Int32 := if j = p then m else 0
/-- element 1 at the start -/
def sr_E1 (q s : Nat) (k n : Int32) (j : Nat) : Int32 := (if j = q then k else 0) + (if j = s then n else 0)
/-- the product -/
def sr_Ep (p q s : Nat) (m k n : Int32) (r : Nat) : Int32 := (m * k) * nI (sr_c p q r) + (m * n) * nI (sr_c p s r)
theorem sr_start {p q s : Nat} (hp : p < 53) (hq : q < 53) (hs : s < 53) (m k n : Int32) {f g h : Nat → Int32} (ef : f = upd (fun _ => 0) (60 * 0 + p) ((fun _ => 0) (60 * 0 + p) + m)) (eg : g = upd f (60 * 1 + q) (f (60 * 1 + q) + k)) (eh : h = upd g (60 * 1 + s) (g (60 * 1 + s) + n)) : ∀ j, j < 53 → h j = sr_E0 p m j ∧ h (60 + j) = sr_E1 q s k n j := by
  have hf : ∀ j, f j = if j = p then m else 0 := by
    intro j
    rw [ef]
    by_cases e : j = p
    · rw [if_pos e, show j = 60 * 0 + p by omega, pk_us]
      show 0 + m = m
      grind
    · rw [if_neg e, pk_un (by omega)]
  have hg : ∀ j, g j = (if j = p then m else 0) + (if j = 60 + q then k else 0) := by
    intro j
    rw [eg]
    by_cases e : j = 60 + q
    · rw [if_pos e, show j = 60 * 1 + q by omega, pk_us, hf]
    · rw [if_neg e, pk_un (by omega), hf]
      grind
  have hh : ∀ j, h j = (if j = p then m else 0) + (if j = 60 + q then k else 0) + (if j = 60 + s then n else 0) := by
    intro j
    rw [eh]
    by_cases e : j = 60 + s
    · rw [if_pos e, show j = 60 * 1 + s by omega, pk_us, hg]
    · rw [if_neg e, pk_un (by omega), hg]
      grind
  intro j hj
  constructor
  · rw [hh, sr_E0, if_neg (show ¬ j = 60 + q by omega), if_neg (show ¬ j = 60 + s by omega)]
    grind
  · rw [hh, sr_E1, if_neg (show ¬ 60 + j = p by omega)]
    by_cases e1 : j = q
    · rw [if_pos e1, if_pos (show 60 + j = 60 + q by omega)]
      by_cases e2 : j = s
      · rw [if_pos e2, if_pos (show 60 + j = 60 + s by omega)]
        grind
      · rw [if_neg e2, if_neg (show ¬ 60 + j = 60 + s by omega)]
        grind
    · rw [if_neg e1, if_neg (show ¬ 60 + j = 60 + q by omega)]
      by_cases e2 : j = s
      · rw [if_pos e2, if_pos (show 60 + j = 60 + s by omega)]
        grind
      · rw [if_neg e2, if_neg (show ¬ 60 + j = 60 + s by omega)]
        grind
theorem sr_ifm (c : Prop) [Decidable c] (a b : Int32) : (if c then a else 0) * b = if c then a * b else 0 := by
  by_cases h : c
  · rw [if_pos h, if_pos h]
  · rw [if_neg h, if_neg h]
    grind
theorem sr_v0 {p : Nat} (hp : p < 53) (m : Int32) (S : Nat → Int32) : sr_sum (fun j => sr_E0 p m j * S j) 53 = m * S p := by
  rw [← sr_sum_delta hp (fun j => m * S j)]
  exact sr_sum_congr (fun j _ => by rw [sr_E0, sr_ifm])
theorem sr_v1 {q s : Nat} (hq : q < 53) (hs : s < 53) (k n : Int32) (S : Nat → Int32) : sr_sum (fun j => sr_E1 q s k n j * S j) 53 = k * S q + n * S s := by
  rw [← sr_sum_delta hq (fun j => k * S j), ← sr_sum_delta hs (fun j => n * S j), ← sr_sum_add]
  refine sr_sum_congr (fun j _ => ?_)
  rw [← sr_ifm, ← sr_ifm, sr_E1]
  grind
theorem sr_vin {p q s : Nat} (hp : p < 53) (m k n : Int32) : sr_sum (fun j => sr_E0 p m j * sr_E1 q s k n j) 53 = (if p = q then m * k else 0) + (if p = s then m * n else 0) := by
  rw [sr_v0 hp, sr_E1]
  by_cases e1 : p = q
  · rw [if_pos e1, if_pos e1]
    by_cases e2 : p = s
    · rw [if_pos e2, if_pos e2]
      grind
    · rw [if_neg e2, if_neg e2]
      grind
  · rw [if_neg e1, if_neg e1]
    by_cases e2 : p = s
    · rw [if_pos e2, if_pos e2]
      grind
    · rw [if_neg e2, if_neg e2]
      grind
/-- the product's double loop comes to two terms -/
theorem sr_vpr {p q s : Nat} (hp : p < 53) (hq : q < 53) (hs : s < 53) (m k n : Int32) (r : Nat) : sr_sum (fun i => (sr_E0 p m (i / 53) * sr_E1 q s k n (i % 53)) * nI (sr_c (i / 53) (i % 53) r)) 2809 = sr_Ep p q s m k n r := by
  have e : sr_Ep p q s m k n r = sr_sum (fun i => (if i = 53 * p + q then (fun _ => (m * k) * nI (sr_c p q r)) i else 0) + (if i = 53 * p + s then (fun _ => (m * n) * nI (sr_c p s r)) i else 0)) 2809 := by
    rw [sr_sum_add, sr_sum_delta (by omega), sr_sum_delta (by omega), sr_Ep]
  rw [e]
  refine sr_sum_congr (fun i hi => ?_)
  rw [sr_E0]
  by_cases e1 : i / 53 = p
  · rw [if_pos e1, sr_E1]
    by_cases e2 : i % 53 = q
    · rw [if_pos e2, if_pos (show i = 53 * p + q by omega)]
      by_cases e3 : i % 53 = s
      · rw [if_pos e3, if_pos (show i = 53 * p + s by omega), e1]
        rw [← e2, ← e3]
        grind
      · rw [if_neg e3, if_neg (show ¬ i = 53 * p + s by omega), e1, e2]
        grind
    · rw [if_neg e2, if_neg (show ¬ i = 53 * p + q by omega)]
      by_cases e3 : i % 53 = s
      · rw [if_pos e3, if_pos (show i = 53 * p + s by omega), e1, e3]
        grind
      · rw [if_neg e3, if_neg (show ¬ i = 53 * p + s by omega)]
        grind
  · rw [if_neg e1, if_neg (show ¬ i = 53 * p + q by omega), if_neg (show ¬ i = 53 * p + s by omega)]
    grind
theorem sr_vp (x y z : Int32) {p q s : Nat} (hp : p < 53) (hq : q < 53) (hs : s < 53) (zp : sr_z p ≤ 5) (zq : sr_z q ≤ 4) (zs : sr_z s ≤ 4) (m k n : Int32) : sr_sum (fun r => sr_Ep p q s m k n r * sr_S x y z r) 53 = (m * sr_S x y z p) * (k * sr_S x y z q + n * sr_S x y z s) := by
  have e : sr_sum (fun r => sr_Ep p q s m k n r * sr_S x y z r) 53 = sr_sum (fun r => (m * k) * (nI (sr_c p q r) * sr_S x y z r) + (m * n) * (nI (sr_c p s r) * sr_S x y z r)) 53 := by
    refine sr_sum_congr (fun r _ => ?_)
    rw [sr_Ep]
    grind
  rw [e, sr_sum_add, sr_sum_mul, sr_sum_mul, sr_lr x y z p q hp hq zp zq, sr_lr x y z p s hp hs zp zs]
  grind
/-- one more size of the parts -/
theorem sr_vd (E S : Nat → Int32) (d : Nat) (n : Nat) : sr_sum (fun j => (if sr_z j < d then E j else 0) * S j) n + sr_sum (fun j => (if sr_z j = d then E j else 0) * S j) n = sr_sum (fun j => (if sr_z j < d + 1 then E j else 0) * S j) n := by
  rw [← sr_sum_add]
  refine sr_sum_congr (fun j _ => ?_)
  by_cases h1 : sr_z j < d
  · rw [if_pos h1, if_neg (by omega), if_pos (by omega)]
    grind
  · rw [if_neg h1]
    by_cases h2 : sr_z j = d
    · rw [if_pos h2, if_pos (by omega)]
      grind
    · rw [if_neg h2, if_neg (by omega)]
      grind
theorem sr_vd0 (E S : Nat → Int32) : sr_sum (fun j => (if sr_z j < 0 then E j else 0) * S j) 53 = 0 :=
  sr_sum_zero (fun j _ => by rw [if_neg (by omega)]; grind)
theorem sr_vd10 (E S : Nat → Int32) : sr_sum (fun j => (if sr_z j < 10 then E j else 0) * S j) 53 = sr_sum (fun j => E j * S j) 53 :=
  sr_sum_congr (fun j hj => by rw [if_pos (by have := (sr_tab j hj).2.2.1; omega)])
theorem sr_tinj {i j : Nat} (hi : i < 53) (hj : j < 53) (h : nI (sr_t i) = nI (sr_t j)) : i = j := by
  have li := (sr_tab i hi).2.2.2
  have lj := (sr_tab j hj).2.2.2
  have e : sr_t i = sr_t j := (nI_eq (by omega) (by omega)).mp h
  exact sr_inj i hi j hj (by rw [sr_A, sr_A, e]) (by rw [sr_B, sr_B, e]) (by rw [sr_C, sr_C, e])
end
section
/-! Part 09: the law -/
theorem sr_482 {post : Int32 → St0 → Prop} {mc ms kc ks : Nat} {x y z k one two : Int32} {a1 a2 a3 a4 a5 a6 : Nat → Int32} (K : sr_ok 53 a1 a2 a3) (E : Nat → Int32) (h4 : ∀ j, j < 53 → a4 (60 + j) = E j) (hE : sr_sum (fun j => E j * sr_S x y z j) 53 = (k * one) * two) (H : post 1 ()) : ∃ n, wL_lawOf_482 post mc ms x y z k one two kc ks n 0 0 (nI 53) a1 a2 a3 a4 a5 a6 := by
  refine pk_loop (σ := Int32 × (Nat → Int32) × (Nat → Int32)) (fun n i s => wL_lawOf_482 post mc ms x y z k one two kc ks n s.1 (nI i) (nI 53) a1 a2 a3 s.2.1 a5 s.2.2)
    (fun d s => s.1 = sr_sum (fun j => (if sr_z j < d then E j else 0) * sr_S x y z j) 53 ∧ ∀ j, j < 53 → s.2.1 (60 + j) = E j) 10 0 (0, a4, a6) (by omega) ⟨(sr_vd0 E _).symm, h4⟩ ?_ ?_
  · intro n s hI
    obtain ⟨t, b4, b6⟩ := s
    obtain ⟨ht, h4⟩ := hI
    dsimp only at ht h4 ⊢
    rw [sr_vd10, hE] at ht
    exact pk_le 10 10 (fun _ => br_t ht H) (fun z => absurd z (by omega))
  · intro n d s hd hI hw
    obtain ⟨t, b4, b6⟩ := s
    obtain ⟨ht, h4⟩ := hI
    dsimp only at ht h4 hw ⊢
    refine pk_le 10 d (fun z => absurd z (by omega)) (fun _ => ?_)
    refine sr_scale 0 (by omega) 0 (fun c4 hc => ?_)
    refine sr_combine 1 (fun d4 hd4 => ?_)
    have f4 : ∀ j, j < 53 → d4 j = E j ∧ d4 (60 + j) = E j := by
      intro j hj
      obtain ⟨u1, u2⟩ := hd4 j hj
      have c0 : c4 j = b4 j * 0 := by rw [hc j, if_pos (by omega)]
      have c1 : c4 (60 + j) = E j := by rw [hc (60 + j), if_neg (by omega), h4 j hj]
      rw [u1, u2, c0, c1]
      exact ⟨by grind, rfl⟩
    refine sr_part K d (by omega) (fun e4 he4 => ?_)
    have g4 : ∀ j, j < 53 → e4 j = (if sr_z j = d then E j else 0) ∧ e4 (60 + j) = E j := by
      intro j hj
      obtain ⟨u1, u2⟩ := he4 j hj
      rw [u1, u2, (f4 j hj).1, (f4 j hj).2]
      exact ⟨rfl, rfl⟩
    have go : wL_lawOf_539 post mc ms (wL_lawOf_482 post mc ms x y z k one two kc ks n) x y z k one two t (nI d) kc ks (nI 53) a1 a2 a3 e4 a5 b6 := by
      unfold wL_lawOf_539
      refine sr_value K 0 (by omega) (sr_sum (fun j => (if sr_z j = d then E j else 0) * sr_S x y z j) 53) ?_ (fun c6 => ?_)
      · exact sr_sum_congr (fun j hj => by rw [Nat.mul_zero, Nat.zero_add, (g4 j hj).1])
      · refine nm_e (nm_r (nI_1 d) (hw (_, e4, c6) ⟨?_, fun j hj => (g4 j hj).2⟩))
        dsimp only
        rw [ht, sr_vd]
    have dd : ∀ r, sr_deg e4 0 53 r → ¬ r = nI d → r = -4 ∧ ∀ j, j < 53 → e4 (60 * 0 + j) = 0 := by
      intro r hr hne
      rcases hr with h | ⟨j, hj, hn, h⟩
      · exact h
      · rw [Nat.mul_zero, Nat.zero_add, (g4 j hj).1] at hn
        by_cases e : sr_z j = d
        · exact absurd (by rw [h, e]) hne
        · rw [if_neg e] at hn
          exact absurd rfl hn
    refine br_t rfl (sr_degree K 0 (by omega) (fun r hr => br_c (fun _ => go) (fun hne => ?_)))
    have hz := (dd r hr hne).2
    refine sr_degree K 0 (by omega) (fun r2 hr2 => br_t ?_ go)
    rcases hr2 with h | ⟨j, hj, hn, h⟩
    · exact h.1
    · exact absurd (hz j hj) hn
theorem sr_209 {post : Int32 → St0 → Prop} {mc ms kc ks : Nat} {x y z m k n z0 z1 : Int32} {a1 a2 a3 a4 a5 a6 : Nat → Int32} (K : sr_ok 53 a1 a2 a3) {p q s : Nat} (hp : p < 53) (hq : q < 53) (hs : s < 53) (zp : sr_z p ≤ 5) (zq : sr_z q ≤ 4) (zs : sr_z s ≤ 4)
    (h4 : ∀ j, j < 53 → a4 j = sr_E0 p m j ∧ a4 (60 + j) = sr_E1 q s k n j) (e1 : z1 = if p = q then m * k else 0) (e0 : z0 = if p = s then m * n else 0) (H : post 1 ()) :
    wL_lawOf_209 post mc ms x y z n (nI (sr_t p)) (nI (sr_t q)) (nI (sr_t s)) m k (m * sr_S x y z p) (k * sr_S x y z q + n * sr_S x y z s) z0 z1 kc ks (nI 53) a1 a2 a3 a4 a5 a6 := by
  unfold wL_lawOf_209
  refine nm_e ?_
  refine sr_value K 0 (by omega) (m * sr_S z x x p) ?_ (fun b6 => ?_)
  · rw [← sr_v0 hp]
    exact sr_sum_congr (fun j hj => by rw [Nat.mul_zero, Nat.zero_add, (h4 j hj).1])
  refine sr_value K 1 (by omega) (k * sr_S z x x q + n * sr_S z x x s) ?_ (fun b6 => ?_)
  · rw [← sr_v1 hq hs]
    exact sr_sum_congr (fun j hj => by rw [Nat.mul_one, (h4 j hj).2])
  refine sr_inner (z1 + z0) ?_ (br_t rfl ?_)
  · rw [e1, e0, ← sr_vin hp m k n]
    exact sr_sum_congr (fun j hj => by rw [(h4 j hj).1, (h4 j hj).2])
  refine sr_prod K ?_ (fun b4 b5 g1 g2 => br_t rfl ?_)
  · intro i j hi hj n1 n2
    rw [(h4 i hi).1, sr_E0] at n1
    rw [(h4 j hj).2, sr_E1] at n2
    have ei : i = p := by
      by_cases e : i = p
      · exact e
      · rw [if_neg e] at n1
        exact absurd rfl n1
    have ej : j = q ∨ j = s := by
      by_cases e : j = q
      · exact Or.inl e
      · by_cases e' : j = s
        · exact Or.inr e'
        · rw [if_neg e, if_neg e'] at n2
          exact absurd rfl n2
    rcases ej with ej | ej
    · rw [ei, ej]
      omega
    · rw [ei, ej]
      omega
  have hb : ∀ j, j < 53 → b4 j = sr_Ep p q s m k n j ∧ b4 (60 + j) = sr_E1 q s k n j := by
    intro j hj
    refine ⟨?_, by rw [g2 j hj, (h4 j hj).2]⟩
    rw [g1 j hj, ← sr_vpr hp hq hs m k n j]
    exact sr_sum_congr (fun i hi => by rw [(h4 (i / 53) (by omega)).1, (h4 (i % 53) (by omega)).2])
  refine sr_value K 0 (by omega) ((m * sr_S x y z p) * (k * sr_S x y z q + n * sr_S x y z s)) ?_ (fun b6 => br_t rfl ?_)
  · rw [← sr_vp x y z hp hq hs zp zq zs]
    exact sr_sum_congr (fun j hj => by rw [Nat.mul_zero, Nat.zero_add, (hb j hj).1])
  refine sr_value K 1 (by omega) (k * sr_S x y z q + n * sr_S x y z s) ?_ (fun b6 => br_t rfl ?_)
  · rw [← sr_v1 hq hs]
    exact sr_sum_congr (fun j hj => by rw [Nat.mul_one, (hb j hj).2])
  refine sr_value K 0 (by omega) ((m * sr_S z x x p) * (k * sr_S z x x q + n * sr_S z x x s)) ?_ (fun b6 => br_t rfl ?_)
  · rw [← sr_vp z x x hp hq hs zp zq zs]
    exact sr_sum_congr (fun j hj => by rw [Nat.mul_zero, Nat.zero_add, (hb j hj).1])
  refine sr_code x (m := 9) (by omega) (fun w hw _ => ?_)
  refine sr_number K hp hq hw ?_
  refine sr_number K hp hs hw ?_
  refine nm_r (e' := sr_Ep p q s m k n w) rfl ?_
  refine sr_coef K (e := 0) (by omega) hw (br_t (by rw [Nat.mul_zero, Nat.zero_add]; exact (hb w hw).1) ?_)
  refine sr_swap (fun c4 hc0 => br_t rfl ?_)
  have hc : ∀ j, j < 53 → c4 j = sr_E1 q s k n j ∧ c4 (60 + j) = sr_Ep p q s m k n j := by
    intro j hj
    rw [(hc0 j hj).1, (hc0 j hj).2]
    exact ⟨(hb j hj).2, (hb j hj).1⟩
  refine sr_coef K (e := 1) (by omega) hw (br_t (by rw [Nat.mul_one]; exact (hc w hw).2) ?_)
  refine sr_value K 0 (by omega) (k * sr_S x y z q + n * sr_S x y z s) ?_ (fun b6 => br_t rfl ?_)
  · rw [← sr_sym2 x y z q hq, ← sr_sym2 x y z s hs, ← sr_v1 hq hs]
    exact sr_sum_congr (fun j hj => by rw [Nat.mul_zero, Nat.zero_add, (hc j hj).1])
  refine sr_combine m (fun d4 hd0 => br_t rfl ?_)
  have hd : ∀ j, j < 53 → d4 j = sr_E1 q s k n j + m * sr_Ep p q s m k n j ∧ d4 (60 + j) = sr_Ep p q s m k n j := by
    intro j hj
    rw [(hd0 j hj).1, (hd0 j hj).2, (hc j hj).1, (hc j hj).2]
    exact ⟨rfl, rfl⟩
  refine sr_value K 0 (by omega) ((k * sr_S x y z q + n * sr_S x y z s) + ((m * (m * sr_S x y z p)) * (k * sr_S x y z q + n * sr_S x y z s))) ?_ (fun b6 => br_t rfl ?_)
  · have e : sr_sum (fun j => d4 (60 * 0 + j) * sr_S x y z j) 53 = sr_sum (fun j => sr_E1 q s k n j * sr_S x y z j + m * (sr_Ep p q s m k n j * sr_S x y z j)) 53 := by
      refine sr_sum_congr (fun j hj => ?_)
      rw [Nat.mul_zero, Nat.zero_add, (hd j hj).1]
      grind
    rw [e, sr_sum_add, sr_sum_mul, sr_v1 hq hs, sr_vp x y z hp hq hs zp zq zs]
    grind
  refine sr_scale 1 (by omega) k (fun f4 hf0 => br_t rfl ?_)
  have hf : ∀ j, j < 53 → f4 (60 + j) = sr_Ep p q s m k n j * k := by
    intro j hj
    rw [hf0 (60 + j), if_pos (by omega), (hd j hj).2]
  have hE : sr_sum (fun j => (sr_Ep p q s m k n j * k) * sr_S x y z j) 53 = (k * (m * sr_S x y z p)) * (k * sr_S x y z q + n * sr_S x y z s) := by
    have e : sr_sum (fun j => (sr_Ep p q s m k n j * k) * sr_S x y z j) 53 = sr_sum (fun j => k * (sr_Ep p q s m k n j * sr_S x y z j)) 53 := by
      refine sr_sum_congr (fun j hj => ?_)
      grind
    rw [e, sr_sum_mul, sr_vp x y z hp hq hs zp zq zs]
    grind
  refine sr_value K 1 (by omega) ((k * (m * sr_S x y z p)) * (k * sr_S x y z q + n * sr_S x y z s)) ?_ (fun b6 => br_t rfl ?_)
  · rw [← hE]
    exact sr_sum_congr (fun j hj => by rw [Nat.mul_one, hf j hj])
  exact sr_482 K (fun j => sr_Ep p q s m k n j * k) hf hE H
theorem sr_193 {post : Int32 → St0 → Prop} {mc ms kc ks : Nat} {x y z m k n z0 : Int32} {a1 a2 a3 a4 a5 a6 : Nat → Int32} (K : sr_ok 53 a1 a2 a3) {p q s : Nat} (hp : p < 53) (hq : q < 53) (hs : s < 53) (zp : sr_z p ≤ 5) (zq : sr_z q ≤ 4) (zs : sr_z s ≤ 4)
    (h4 : ∀ j, j < 53 → a4 j = sr_E0 p m j ∧ a4 (60 + j) = sr_E1 q s k n j) (e0 : z0 = if p = q then m * k else 0) (H : post 1 ()) :
    wL_lawOf_193 post mc ms x y z n (nI (sr_t p)) (nI (sr_t q)) (nI (sr_t s)) m k (m * sr_S x y z p) (k * sr_S x y z q + n * sr_S x y z s) z0 kc ks (nI 53) a1 a2 a3 a4 a5 a6 := by
  unfold wL_lawOf_193
  refine br_c (fun h => ?_) (fun h => ?_)
  · exact sr_209 K hp hq hs zp zq zs h4 e0 (by rw [if_pos (sr_tinj hp hs h)]) H
  · exact sr_209 K hp hq hs zp zq zs h4 e0 (by rw [if_neg (fun e => h (by rw [e]))]) H
theorem sr_lawOf {post : Int32 → St0 → Prop} (p0 p1 p2 x y z : Int32) (H : post 1 ()) : wpL_lawOf post 7 379 () p0 p1 p2 x y z := by
  unfold wpL_lawOf
  refine ⟨by omega, by omega, 6, 372, by omega, by omega, sr_init (fun a1 a2 a3 K => ?_)⟩
  dsimp only
  intro n _
  refine sr_code p0 (m := 5) (by omega) (fun p hp zp => ?_)
  refine sr_code p1 (m := 4) (by omega) (fun q hq zq => ?_)
  refine sr_code _ (m := 4) (by omega) (fun s hs zs => ?_)
  intro m _ k _
  refine sr_addW K (e := 0) (by omega) hp m ?_
  generalize ef : upd (fun _ => 0) (60 * 0 + p) ((fun _ => 0) (60 * 0 + p) + m) = f
  refine sr_addW K (e := 1) (by omega) hq k ?_
  generalize eg : upd f (60 * 1 + q) (f (60 * 1 + q) + k) = g
  refine sr_addW K (e := 1) (by omega) hs n ?_
  generalize eh : upd g (60 * 1 + s) (g (60 * 1 + s) + n) = h
  have h4 := sr_start hp hq hs m k n ef.symm eg.symm eh.symm
  refine sr_atW hp (nm_r (e' := m * sr_S x y z p) (by rw [sr_atS x y z p hp zp]) ?_)
  refine sr_atW hq (sr_atW hs (nm_r (e' := k * sr_S x y z q + n * sr_S x y z s) (by rw [sr_atS x y z q hq (by omega), sr_atS x y z s hs (by omega)]) ?_))
  dsimp only
  refine sr_value K 0 (by omega) (m * sr_S x y z p) ?_ (fun b6 => br_t rfl ?_)
  · rw [← sr_v0 hp]
    exact sr_sum_congr (fun j hj => by rw [Nat.mul_zero, Nat.zero_add, (h4 j hj).1])
  dsimp only
  refine sr_value K 1 (by omega) (k * sr_S x y z q + n * sr_S x y z s) ?_ (fun b6 => br_t rfl ?_)
  · rw [← sr_v1 hq hs]
    exact sr_sum_congr (fun j hj => by rw [Nat.mul_one, (h4 j hj).2])
  dsimp only
  refine sr_value K 0 (by omega) (m * sr_S x y z p) ?_ (fun b6 => br_t rfl ?_)
  · rw [← sr_sym1 x y z p hp, ← sr_v0 hp]
    exact sr_sum_congr (fun j hj => by rw [Nat.mul_zero, Nat.zero_add, (h4 j hj).1])
  refine br_c (fun h => ?_) (fun h => ?_)
  · exact sr_193 K hp hq hs zp zq zs h4 (by rw [if_pos (sr_tinj hp hq h)]) H
  · exact sr_193 K hp hq hs zp zq zs h4 (by rw [if_neg (fun e => h (by rw [e]))]) H
theorem sr_cell {post : Int32 → Prop} {L : Nat} {xs : Nat → Int32} (i : Nat) (hi : i ≤ 5) (hL : L ≤ 6) (H : ∀ v, post v) : wpL_cellAt post L xs () (nI i) :=
  pk_le L i (fun _ => H 0) (fun z => ⟨pk_in i L z, H _⟩)
theorem i_vc (xs : Nat → Int32) (L : Nat) (hL : L ≤ 6) : wpL_law (fun r => r = 1) L xs := by
  unfold wpL_law
  refine sr_cell 0 (by omega) hL (fun v0 => ?_)
  refine sr_cell 1 (by omega) hL (fun v1 => ?_)
  refine sr_cell 2 (by omega) hL (fun v2 => ?_)
  refine sr_cell 3 (by omega) hL (fun v3 => ?_)
  refine sr_cell 4 (by omega) hL (fun v4 => ?_)
  refine sr_cell 5 (by omega) hL (fun v5 => ?_)
  exact ⟨7, 379, by omega, by omega, sr_lawOf v0 v1 v2 v3 v4 v5 rfl⟩
end
