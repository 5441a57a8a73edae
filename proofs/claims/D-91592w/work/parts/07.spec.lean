/-! PLAIN WORDS: sums, bounds, what is wet, the level, the arm -/
def sumZ (f : Int → Int) : Nat → Int
  | 0 => 0
  | n + 1 => sumZ f n + f n
/-- f 0 + .. + f (n - 1) -/
def sm (f : Int → Int) (n : Int) : Int := sumZ f n.toNat
theorem sm_0 (f : Int → Int) : sm f 0 = 0 := rfl
theorem sm_s (f : Int → Int) {n : Int} (h : 0 ≤ n) : sm f (n + 1) = sm f n + f n := by
  have e : (n + 1).toNat = n.toNat + 1 := by omega
  have e2 : ((n.toNat : Nat) : Int) = n := by omega
  unfold sm
  rw [e]
  show sumZ f n.toNat + f ((n.toNat : Nat) : Int) = _
  rw [e2]
theorem sm_neg (f : Int → Int) {n : Int} (h : n ≤ 0) : sm f n = 0 := by
  have e : n.toNat = 0 := by omega
  unfold sm
  rw [e]
  rfl
theorem sumZ_congr {f g : Int → Int} : ∀ n : Nat, (∀ k : Nat, k < n → f k = g k) → sumZ f n = sumZ g n
  | 0, _ => rfl
  | n + 1, h => by
    show sumZ f n + f n = sumZ g n + g n
    rw [sumZ_congr n (fun k hk => h k (by omega)), h n (by omega)]
theorem sm_congr {f g : Int → Int} {n : Int} (h : ∀ k, 0 ≤ k → k < n → f k = g k) : sm f n = sm g n := sumZ_congr _ (fun k hk => h k (by omega) (by omega))
theorem sumZ_bd {f : Int → Int} {lo hi : Int} : ∀ n : Nat, (∀ k : Nat, k < n → lo ≤ f k ∧ f k ≤ hi) → lo * n ≤ sumZ f n ∧ sumZ f n ≤ hi * n
  | 0, _ => by simp [sumZ]
  | n + 1, h => by
    have h1 := sumZ_bd n (fun k hk => h k (by omega))
    have h2 := h n (by omega)
    have e1 : lo * ((n + 1 : Nat) : Int) = lo * n + lo := by rw [Int.natCast_add, Int.mul_add]; simp
    have e2 : hi * ((n + 1 : Nat) : Int) = hi * n + hi := by rw [Int.natCast_add, Int.mul_add]; simp
    show lo * ((n + 1 : Nat) : Int) ≤ sumZ f n + f n ∧ sumZ f n + f n ≤ hi * ((n + 1 : Nat) : Int)
    rw [e1, e2]
    omega
theorem sm_bd {f : Int → Int} {n lo hi : Int} (h0 : 0 ≤ n) (h : ∀ k, 0 ≤ k → k < n → lo ≤ f k ∧ f k ≤ hi) : lo * n ≤ sm f n ∧ sm f n ≤ hi * n := by
  have e2 : ((n.toNat : Nat) : Int) = n := by omega
  have h1 := sumZ_bd (f := f) (lo := lo) (hi := hi) n.toNat (fun k hk => h k (by omega) (by omega))
  rw [e2] at h1
  exact h1
/-- every f k for 0 ≤ k < n lies between lo and hi -/
def Bd (f : Int → Int) (n lo hi : Int) : Prop := ∀ k, 0 ≤ k → k < n → lo ≤ f k ∧ f k ≤ hi
theorem Bd.upd {f : Int → Int} {n lo hi z v : Int} (h : Bd f n lo hi) (hv : lo ≤ v ∧ v ≤ hi) : Bd (updZ f z v) n lo hi := by
  intro k h0 h1
  by_cases hk : k = z
  · subst hk; rw [updZ_s]; exact hv
  · rw [updZ_n hk]; exact h k h0 h1
theorem mul_bd {a b A B : Int} (ha : -A ≤ a ∧ a ≤ A) (hb : -B ≤ b ∧ b ≤ B) : -(A * B) ≤ a * b ∧ a * b ≤ A * B := by
  have hA : 0 ≤ A := by omega
  have h1 : a * b ≤ A * B := by
    rcases Int.le_total 0 a with p | p <;> rcases Int.le_total 0 b with q | q
    · exact Int.mul_le_mul ha.2 hb.2 q hA
    · exact Int.le_trans (Int.mul_nonpos_of_nonneg_of_nonpos p q) (Int.mul_nonneg hA (by omega))
    · exact Int.le_trans (Int.mul_nonpos_of_nonpos_of_nonneg p q) (Int.mul_nonneg hA (by omega))
    · have := Int.mul_le_mul (a := -a) (b := -b) (c := A) (d := B) (by omega) (by omega) (by omega) hA
      rwa [Int.neg_mul_neg] at this
  have h2 : -(A * B) ≤ a * b := by
    have h3 : -a * b ≤ A * B := by
      rcases Int.le_total 0 (-a) with p | p <;> rcases Int.le_total 0 b with q | q
      · exact Int.mul_le_mul (by omega) hb.2 q hA
      · exact Int.le_trans (Int.mul_nonpos_of_nonneg_of_nonpos p q) (Int.mul_nonneg hA (by omega))
      · exact Int.le_trans (Int.mul_nonpos_of_nonpos_of_nonneg p q) (Int.mul_nonneg hA (by omega))
      · have := Int.mul_le_mul (a := a) (b := -b) (c := A) (d := B) (by omega) (by omega) (by omega) hA
        rw [show a * -b = -a * b by rw [Int.mul_neg, Int.neg_mul]] at this
        exact this
    rw [Int.neg_mul] at h3
    omega
  exact ⟨h2, h1⟩
def clampZ (v m : Int) : Int := if v < -m then -m else if m < v then m else v
theorem clampZ_bd {v m : Int} (h : 0 ≤ m) : -m ≤ clampZ v m ∧ clampZ v m ≤ m := by
  unfold clampZ
  split
  · omega
  · split <;> omega
theorem tdiv_floor {a b : Int} (hb : 0 < b) : (if 0 ≤ a then a.tdiv b else -((-a + b - 1).tdiv b)) = a / b := by
  split
  · rename_i h
    exact Int.tdiv_eq_ediv_of_nonneg h
  · rename_i h
    rw [Int.tdiv_eq_ediv_of_nonneg (by omega)]
    have h1 := Int.ediv_mul_le a (Int.ne_of_gt hb)
    have h2 := Int.lt_ediv_add_one_mul_self a hb
    have e : (-a + b - 1) / b = -(a / b) := by
      apply Int.le_antisymm
      · apply Int.le_of_lt_add_one
        apply Int.ediv_lt_of_lt_mul hb
        rw [Int.add_mul, Int.neg_mul]
        omega
      · apply Int.le_ediv_of_mul_le hb
        rw [Int.neg_mul]
        rw [Int.add_mul] at h2
        omega
    rw [e, Int.neg_neg]
theorem tdiv_bd {a b M : Int} (hb : 0 < b) (h : -M ≤ a ∧ a ≤ M) : -M ≤ a.tdiv b ∧ a.tdiv b ≤ M := by
  rcases Int.le_total 0 a with p | p
  · rw [Int.tdiv_eq_ediv_of_nonneg p]
    have h1 := Int.ediv_le_self b p
    have h2 := Int.ediv_nonneg p (Int.le_of_lt hb)
    omega
  · have e : a.tdiv b = -((-a) / b) := by
      rw [← Int.tdiv_eq_ediv_of_nonneg (show 0 ≤ -a by omega), Int.neg_tdiv, Int.neg_neg]
    rw [e]
    have h1 := Int.ediv_le_self b (show 0 ≤ -a by omega)
    have h2 := Int.ediv_nonneg (show 0 ≤ -a by omega) (Int.le_of_lt hb)
    omega
