/-! PLAIN WORDS: the tokens of a text -/
set_option maxRecDepth 100000
/-- from p on as long as f, up to n -/
def rnN (f : Int → Bool) (n : Int) : Nat → Int → Int
  | 0, p => p
  | k + 1, p => if p < n ∧ f p = true then rnN f n k (p + 1) else p
def rn (f : Int → Bool) (n p : Int) : Int := rnN f n (n - p).toNat p
theorem rn_s {f : Int → Bool} {n p : Int} (h : p < n) (hf : f p = true) : rn f n p = rn f n (p + 1) := by
  have e : (n - p).toNat = (n - (p + 1)).toNat + 1 := by omega
  unfold rn
  rw [e]
  show (if p < n ∧ f p = true then _ else _) = _
  rw [if_pos ⟨h, hf⟩]
theorem rn_e {f : Int → Bool} {n p : Int} (h : ¬ (p < n ∧ f p = true)) : rn f n p = p := by
  unfold rn
  cases (n - p).toNat with
  | zero => rfl
  | succ k =>
    show (if p < n ∧ f p = true then _ else _) = _
    rw [if_neg h]
theorem rnN_bd (f : Int → Bool) (n : Int) : ∀ (k : Nat) (p : Int), p ≤ n → p ≤ rnN f n k p ∧ rnN f n k p ≤ n
  | 0, p, h => ⟨Int.le_refl _, h⟩
  | k + 1, p, h => by
    show p ≤ (if p < n ∧ f p = true then _ else _) ∧ (if p < n ∧ f p = true then _ else _) ≤ n
    split
    · rename_i c
      have := rnN_bd f n k (p + 1) (by omega)
      omega
    · omega
theorem rn_bd (f : Int → Bool) {n p : Int} (h : p ≤ n) : p ≤ rn f n p ∧ rn f n p ≤ n := rnN_bd f n _ p h
theorem rn_cg {f g : Int → Bool} {n : Int} (h : ∀ k, 0 ≤ k → k < n → f k = g k) : ∀ (m : Nat) (p : Int), 0 ≤ p → rnN f n m p = rnN g n m p
  | 0, _, _ => rfl
  | m + 1, p, hp => by
    show (if p < n ∧ f p = true then _ else _) = (if p < n ∧ g p = true then _ else _)
    by_cases c : p < n
    · rw [h p hp c, rn_cg h m (p + 1) (by omega)]
    · rw [if_neg (fun q => c q.1), if_neg (fun q => c q.1)]
def fSp (x : Int → Int) : Int → Bool := fun q => decide (x q = 32)
def fLe (x : Int → Int) : Int → Bool := fun q => decide (97 ≤ x q ∧ x q ≤ 122)
def fDi (x : Int → Int) : Int → Bool := fun q => decide (48 ≤ x q ∧ x q ≤ 57)
/-- where the token from p on begins, ends -/
def tF (x : Int → Int) (n p : Int) : Int := rn (fSp x) n p
def tT (x : Int → Int) (n p : Int) : Int := if tF x n p = n then n else if fLe x (tF x n p) = true then rn (fLe x) n (tF x n p) else if fDi x (tF x n p) = true then rn (fDi x) n (tF x n p) else tF x n p + 1
def isSg (b : Int) : Prop := b = 43 ∨ b = 45 ∨ b = 42 ∨ b = 47 ∨ b = 40 ∨ b = 41 ∨ b = 91 ∨ b = 93 ∨ b = 60 ∨ b = 62 ∨ b = 61 ∨ b = 59
/-- its kind: 0 none, 1 a number, 2 a word, 3 a sign, 4 odd -/
def tK (x : Int → Int) (n p : Int) : Int := if tF x n p = n then 0 else if fLe x (tF x n p) = true then 2 else if fDi x (tF x n p) = true then 1 else if x (tF x n p) = 43 ∨ x (tF x n p) = 45 ∨ x (tF x n p) = 42 ∨ x (tF x n p) = 47 ∨ x (tF x n p) = 40 ∨ x (tF x n p) = 41 ∨ x (tF x n p) = 91 ∨ x (tF x n p) = 93 ∨ x (tF x n p) = 60 ∨ x (tF x n p) = 62 ∨ x (tF x n p) = 61 ∨ x (tF x n p) = 59 then 3 else 4
/-- numbers: by k digits from q on; as the Model reads them, as the component does -/
def numM (x : Int → Int) (q : Int) : Nat → Int
  | 0 => 0
  | k + 1 => if 1000000 < numM x q k then numM x q k else 10 * numM x q k + x (q + k) - 48
def numC (x : Int → Int) (q : Int) : Nat → Int
  | 0 => 0
  | k + 1 => if 1000000 < (if 100000 < numC x q k then 1000000 else 10 * numC x q k + x (q + k) - 48) then 1000000 else (if 100000 < numC x q k then 1000000 else 10 * numC x q k + x (q + k) - 48)
theorem num_rel (x : Int → Int) (q : Int) : ∀ k : Nat, (∀ j : Nat, j < k → 48 ≤ x (q + j) ∧ x (q + j) ≤ 57) → (0 ≤ numM x q k ∧ numM x q k ≤ 10000019) ∧ (0 ≤ numC x q k ∧ numC x q k ≤ 1000000) ∧ ((numM x q k = numC x q k ∧ numM x q k ≤ 1000000) ∨ (9999 < numM x q k ∧ 9999 < numC x q k))
  | 0, _ => by simp [numM, numC]
  | k + 1, h => by
    have ih := num_rel x q k (fun j hj => h j (by omega))
    have hd := h k (by omega)
    unfold numM numC
    repeat' split
    all_goals omega
/-- is the text from q up to t the word i -/
def eqN (x : Int → Int) (q : Int) (i : Nat) : Nat → Bool
  | 0 => true
  | k + 1 => eqN x q i k && decide (x (q + k) = sCh i k)
def isW (x : Int → Int) (q t : Int) (i : Nat) : Bool := decide (t - q = sLn i) && eqN x q i (sLn i).toNat
/-- the Model's twelve words among the constants -/
def wS (k : Nat) : Nat := if k ≤ 8 then k + 1 else 22 - k
def wIdN (x : Int → Int) (q t : Int) : Nat → Nat → Int
  | 0, _ => -1
  | n + 1, k => if isW x q t (wS k) = true then (k : Int) else wIdN x q t n (k + 1)
def wId (x : Int → Int) (q t : Int) : Int := wIdN x q t 12 0
def tV (x : Int → Int) (n p : Int) : Int := if tK x n p = 2 then wId x (tF x n p) (tT x n p) else if tK x n p = 1 then numM x (tF x n p) (tT x n p - tF x n p).toNat else if tK x n p = 0 then 0 else x (tF x n p)
/-- where the words lie in the Model's constant -/
def wAt (k : Nat) : Nat := ([1, 6, 10, 16, 22, 27, 32, 36, 40, 46, 49, 53, 57] : List Nat).getD k 57
theorem w_facts : ∀ k : Nat, k < 12 → wS k < 14 ∧ (0 < sLn (wS k) ∧ sLn (wS k) ≤ 5) ∧ (wAt (k + 1) : Int) = wAt k + sLn (wS k) + 1 ∧ (wAt k : Int) + sLn (wS k) < 57 ∧ sCh 0 (wAt k + sLn (wS k)) = 32 ∧ ∀ j : Nat, j < (sLn (wS k)).toNat → sCh 0 (wAt k + j) = sCh (wS k) j ∧ sCh (wS k) j ≠ 32 := by decide +kernel
theorem wIdN_bd (x : Int → Int) (q t : Int) : ∀ n k : Nat, -1 ≤ wIdN x q t n k ∧ wIdN x q t n k < n + k
  | 0, k => by
    show -1 ≤ (-1 : Int) ∧ (-1 : Int) < ((0 : Nat) : Int) + k
    omega
  | n + 1, k => by
    have := wIdN_bd x q t n (k + 1)
    show -1 ≤ (if isW x q t (wS k) = true then (k : Int) else wIdN x q t n (k + 1)) ∧ (if isW x q t (wS k) = true then (k : Int) else wIdN x q t n (k + 1)) < _
    split <;> omega
theorem wId_bd (x : Int → Int) (q t : Int) : -1 ≤ wId x q t ∧ wId x q t ≤ 11 := by
  have := wIdN_bd x q t 12 0
  unfold wId
  omega
theorem tF_bd (x : Int → Int) {n p : Int} (h : p ≤ n) : p ≤ tF x n p ∧ tF x n p ≤ n := rn_bd _ h
theorem tT_bd (x : Int → Int) {n p : Int} (h : p ≤ n) : tF x n p ≤ tT x n p ∧ tT x n p ≤ n ∧ (tF x n p < n → tF x n p < tT x n p) := by
  have h1 := tF_bd x h
  unfold tT
  by_cases c : tF x n p = n
  · rw [if_pos c]
    omega
  · rw [if_neg c]
    by_cases c1 : fLe x (tF x n p) = true
    · rw [if_pos c1, rn_s (by omega) c1]
      have := rn_bd (fLe x) (n := n) (p := tF x n p + 1) (by omega)
      omega
    · rw [if_neg c1]
      by_cases c2 : fDi x (tF x n p) = true
      · rw [if_pos c2, rn_s (by omega) c2]
        have := rn_bd (fDi x) (n := n) (p := tF x n p + 1) (by omega)
        omega
      · rw [if_neg c2]
        omega
theorem rn_all {f : Int → Bool} {n : Int} : ∀ (m : Nat) (p q : Int), p ≤ q → q < rnN f n m p → f q = true
  | 0, p, q, h, hq => by
    have : rnN f n 0 p = p := rfl
    omega
  | m + 1, p, q, h, hq => by
    have e : rnN f n (m + 1) p = if p < n ∧ f p = true then rnN f n m (p + 1) else p := rfl
    rw [e] at hq
    by_cases c : p < n ∧ f p = true
    · rw [if_pos c] at hq
      by_cases hp : p = q
      · rw [← hp]; exact c.2
      · exact rn_all m (p + 1) q (by omega) hq
    · rw [if_neg c] at hq
      omega
theorem tK_bd (x : Int → Int) (n p : Int) : 0 ≤ tK x n p ∧ tK x n p ≤ 4 := by
  unfold tK
  repeat' split
  all_goals decide
/-- a number's digits -/
theorem t_dig {x : Int → Int} {n p : Int} (h : tK x n p = 1) : ∀ j : Nat, j < (tT x n p - tF x n p).toNat → 48 ≤ x (tF x n p + j) ∧ x (tF x n p + j) ≤ 57 := by
  intro j hj
  unfold tK at h
  by_cases c : tF x n p = n
  · rw [if_pos c] at h; cases h
  · rw [if_neg c] at h
    by_cases c1 : fLe x (tF x n p) = true
    · rw [if_pos c1] at h; cases h
    · rw [if_neg c1] at h
      by_cases c2 : fDi x (tF x n p) = true
      · have e : tT x n p = rn (fDi x) n (tF x n p) := by unfold tT; rw [if_neg c, if_neg c1, if_pos c2]
        rw [e] at hj
        have := rn_all (f := fDi x) (n := n) (n - tF x n p).toNat (tF x n p) (tF x n p + j) (by omega) (by show _ < rn (fDi x) n (tF x n p); omega)
        exact of_decide_eq_true this
      · rw [if_neg c2] at h
        split at h <;> cases h
theorem tV_bd (x : Int → Int) {n p : Int} (hx : ∀ k, -128 ≤ x k ∧ x k ≤ 127) : -128 ≤ tV x n p ∧ tV x n p ≤ 10000019 := by
  unfold tV
  by_cases c : tK x n p = 2
  · rw [if_pos c]
    have := wId_bd x (tF x n p) (tT x n p)
    omega
  · rw [if_neg c]
    by_cases c1 : tK x n p = 1
    · rw [if_pos c1]
      have := (num_rel x (tF x n p) _ (t_dig c1)).1
      omega
    · rw [if_neg c1]
      have := hx (tF x n p)
      split <;> omega
