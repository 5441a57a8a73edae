/-! PLAIN WORDS: the Model's reader, a machine on a stack -/
set_option maxRecDepth 100000
abbrev PS : Type := Int × List Int × Int × List (Int × Int) × Int × (Int → Int) × (Int → Int)
/-- what it does with the topmost s: place p, the stack below, depth, what was said, the clause, where clauses begin and end -/
def stepS (x : Int → Int) (n s p : Int) (stk : List Int) (d : Int) (out : List (Int × Int)) (cl : Int) (bg cs : Int → Int) : Option PS :=
  if 1000 ≤ s then some (p, stk, d, out ++ [(s - 1000, 0)], cl, bg, cs)
  else if 100 ≤ s then (if tK x n p = 3 ∧ tV x n p = s - 100 then some (tT x n p, stk, d, out, cl, bg, cs) else none)
  else if s = 0 then (if tK x n p = 0 then some (p, stk, d, out, cl, bg, cs) else if tK x n p = 2 ∧ (0 ≤ tV x n p ∧ tV x n p ≤ 1) ∧ bg (tV x n p) = -1 then some (tT x n p, 6 :: 159 :: 13 :: 0 :: stk, d, out, tV x n p, updZ bg (tV x n p) out.length, cs) else none)
  else if s = 1 then some (p, 3 :: 2 :: stk, d, out, cl, bg, cs)
  else if s = 2 then (if tK x n p = 3 ∧ (tV x n p = 43 ∨ tV x n p = 45) then some (tT x n p, 3 :: (1000 + if tV x n p = 43 then 2 else 3) :: 2 :: stk, d, out, cl, bg, cs) else some (p, stk, d, out, cl, bg, cs))
  else if s = 3 then some (p, 5 :: 4 :: stk, d, out, cl, bg, cs)
  else if s = 4 then (if tK x n p = 3 ∧ (tV x n p = 42 ∨ tV x n p = 47) then some (tT x n p, 5 :: (1000 + if tV x n p = 42 then 4 else 5) :: 4 :: stk, d, out, cl, bg, cs) else some (p, stk, d, out, cl, bg, cs))
  else if s = 5 then (if tK x n p = 1 then (if 9999 < tV x n p then none else some (tT x n p, stk, d, out ++ [(0, tV x n p)], cl, bg, cs)) else if tK x n p = 2 ∧ (2 ≤ tV x n p ∧ tV x n p ≤ 8) then some (tT x n p, stk, d, out ++ [(1, tV x n p - 2)], cl, bg, cs) else if tK x n p = 3 ∧ tV x n p = 40 ∧ d ≠ 8 then some (tT x n p, 1 :: 141 :: 12 :: stk, d + 1, out, cl, bg, cs) else none)
  else if s = 6 then some (p, 8 :: 7 :: stk, d, out, cl, bg, cs)
  else if s = 7 then (if tK x n p = 2 ∧ tV x n p = 9 then some (tT x n p, 8 :: 1010 :: 7 :: stk, d, out, cl, bg, cs) else some (p, stk, d, out, cl, bg, cs))
  else if s = 8 then some (p, 10 :: 9 :: stk, d, out, cl, bg, cs)
  else if s = 9 then (if tK x n p = 2 ∧ tV x n p = 10 then some (tT x n p, 10 :: 1009 :: 9 :: stk, d, out, cl, bg, cs) else some (p, stk, d, out, cl, bg, cs))
  else if s = 10 then (if tK x n p = 2 ∧ tV x n p = 11 then (if d = 8 then none else some (tT x n p, 10 :: 1011 :: 12 :: stk, d + 1, out, cl, bg, cs)) else if tK x n p = 3 ∧ tV x n p = 91 then (if d = 8 then none else some (tT x n p, 6 :: 193 :: 12 :: stk, d + 1, out, cl, bg, cs)) else some (p, 1 :: 11 :: stk, d, out, cl, bg, cs))
  else if s = 11 then (if tK x n p = 3 ∧ (tV x n p = 60 ∨ tV x n p = 62 ∨ tV x n p = 61) then some (tT x n p, 1 :: (1000 + if tV x n p = 60 then 6 else if tV x n p = 62 then 7 else 8) :: stk, d, out, cl, bg, cs) else none)
  else if s = 12 then some (p, stk, d - 1, out, cl, bg, cs)
  else some (p, stk, d, out, cl, bg, updZ cs cl out.length)
def stkIs (tc : Int → Int) : List Int → Prop
  | [] => True
  | s :: r => tc r.length = s ∧ stkIs tc r
theorem stkIs_up {tc : Int → Int} {z v : Int} : ∀ {r : List Int}, (r.length : Int) ≤ z → stkIs tc r → stkIs (updZ tc z v) r
  | [], _, _ => trivial
  | s :: r, h, hs => by
    have h' : (r.length : Int) + 1 ≤ z := by rw [List.length_cons] at h; omega
    exact ⟨by rw [updZ_n (by omega)]; exact hs.1, stkIs_up (by omega) hs.2⟩
/-- one more on top -/
theorem stkIs_push {tc : Int → Int} {r : List Int} (v : Int) {z : Int} (hz : z = r.length) (h : stkIs tc r) : stkIs (updZ tc z v) (v :: r) := by
  subst hz
  exact ⟨updZ_s, stkIs_up (Int.le_refl _) h⟩
def outIs (dd ww : Int → Int) (out : List (Int × Int)) : Prop := ∀ i : Nat, i < out.length → dd i = (out.getD i (0, 0)).1 ∧ ww i = (out.getD i (0, 0)).2
theorem outIs_add {dd ww : Int → Int} {out : List (Int × Int)} (a b : Int) (h : outIs dd ww out) : outIs (updZ dd out.length a) (updZ ww out.length b) (out ++ [(a, b)]) := by
  intro i hi
  rw [List.length_append, List.length_singleton] at hi
  by_cases c : i = out.length
  · subst c
    rw [updZ_s, updZ_s]
    simp [List.getD_eq_getElem?_getD]
  · have := h i (by omega)
    rw [updZ_n (by omega), updZ_n (by omega), this.1, this.2]
    simp only [List.getD_eq_getElem?_getD]
    rw [List.getElem?_append_left (by omega)]
    exact ⟨rfl, rfl⟩
def mI (I0 : Nat → Int) (x : Int → Int) (p c d cl k : Int) : Nat → Int := fun j => if j = 49 then tT x (I0 48) p else if j = 50 then tK x (I0 48) p else if j = 51 then tF x (I0 48) p else if j = 52 then tV x (I0 48) p else if j = 54 then c else if j = 55 then d else if j = 56 then cl else if j = 59 then k else I0 j
def mF (F0 : Nat → Int → Int) (tc dd ww bg cs : Int → Int) : Nat → Int → Int := fun j => if j = 53 then tc else if j = 57 then dd else if j = 58 then ww else if j = 60 then bg else if j = 61 then cs else F0 j
/-- the Model's fields hold the machine's state -/
def RepS (I0 : Nat → Int) (F0 : Nat → Int → Int) (p : Int) (stk : List Int) (d : Int) (out : List (Int × Int)) (cl : Int) (bg cs : Int → Int) (I1 : Nat → Int) (F1 : Nat → Int → Int) : Prop := I1 = mI I0 (F0 47) p stk.length d cl out.length ∧ ∃ tc dd ww, F1 = mF F0 tc dd ww bg cs ∧ stkIs tc stk ∧ outIs dd ww out
/-- within bounds -/
def okS (n p : Int) (stk : List Int) (d : Int) (out : List (Int × Int)) (cl : Int) (bg : Int → Int) : Prop := (0 ≤ p ∧ p ≤ n) ∧ stk.length ≤ 500 ∧ (0 ≤ d ∧ d ≤ 8) ∧ out.length < 300 ∧ (0 ≤ cl ∧ cl ≤ 1) ∧ Bd bg 2 (-1) 300
/-- so many steps: none, if they don't do; yes or no, and where -/
def exec (x : Int → Int) (n : Int) : Nat → Int → List Int → Int → List (Int × Int) → Int → (Int → Int) → (Int → Int) → Option (Bool × PS)
  | 0, _, _, _, _, _, _, _ => none
  | _ + 1, p, [], d, out, cl, bg, cs => some (true, (p, [], d, out, cl, bg, cs))
  | N + 1, p, s :: stk, d, out, cl, bg, cs => match stepS x n s p stk d out cl bg cs with
    | none => some (false, (p, stk, d, out, cl, bg, cs))
    | some q => exec x n N q.1 q.2.1 q.2.2.1 q.2.2.2.1 q.2.2.2.2.1 q.2.2.2.2.2.1 q.2.2.2.2.2.2
theorem upF_mF53 (F0 : Nat → Int → Int) (tc dd ww bg cs : Int → Int) (z v : Int) : upF (mF F0 tc dd ww bg cs) 53 z v = mF F0 (updZ tc z v) dd ww bg cs := by
  funext j
  by_cases c : j = 53
  · subst c; simp [upF, va_up, mF]
  · simp [upF, va_up, mF, c]
theorem upF_mF57 (F0 : Nat → Int → Int) (tc dd ww bg cs : Int → Int) (z v : Int) : upF (mF F0 tc dd ww bg cs) 57 z v = mF F0 tc (updZ dd z v) ww bg cs := by
  funext j
  by_cases c : j = 57
  · subst c; simp [upF, va_up, mF]
  · simp [upF, va_up, mF, c]
theorem upF_mF58 (F0 : Nat → Int → Int) (tc dd ww bg cs : Int → Int) (z v : Int) : upF (mF F0 tc dd ww bg cs) 58 z v = mF F0 tc dd (updZ ww z v) bg cs := by
  funext j
  by_cases c : j = 58
  · subst c; simp [upF, va_up, mF]
  · simp [upF, va_up, mF, c]
theorem upF_mF60 (F0 : Nat → Int → Int) (tc dd ww bg cs : Int → Int) (z v : Int) : upF (mF F0 tc dd ww bg cs) 60 z v = mF F0 tc dd ww (updZ bg z v) cs := by
  funext j
  by_cases c : j = 60
  · subst c; simp [upF, va_up, mF]
  · simp [upF, va_up, mF, c]
theorem upF_mF61 (F0 : Nat → Int → Int) (tc dd ww bg cs : Int → Int) (z v : Int) : upF (mF F0 tc dd ww bg cs) 61 z v = mF F0 tc dd ww bg (updZ cs z v) := by
  funext j
  by_cases c : j = 61
  · subst c; simp [upF, va_up, mF]
  · simp [upF, va_up, mF, c]
