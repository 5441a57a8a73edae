/-! PLAIN WORDS: texts read by descent; the Model's machine does the same -/
set_option maxRecDepth 100000
abbrev PR : Type := Bool × Int × List (Int × Int)
def sq (a : PR) (k : Int → PR) : PR := if a.1 = true then ((k a.2.1).1, (k a.2.1).2.1, a.2.2 ++ (k a.2.1).2.2) else a
/-- so deep at most; what: 1 a sum, 2 its rest, 3 a product, 4 its rest, 5 a factor, 6 tests by or, 7 the rest, 8 by and, 9 the rest, 10 a test, 11 what it compares with; depth, place: does it stand there, up to where, what it says -/
def ps (x : Int → Int) (n : Int) : Nat → Int → Int → Int → PR
  | 0, _, _, p => (false, p, [])
  | f + 1, s, d, p =>
    if s = 1 then sq (ps x n f 3 d p) (fun p1 => ps x n f 2 d p1)
    else if s = 2 then (if tK x n p = 3 ∧ (tV x n p = 43 ∨ tV x n p = 45) then sq (sq (ps x n f 3 d (tT x n p)) (fun p1 => (true, p1, [(if tV x n p = 43 then 2 else 3, 0)]))) (fun p1 => ps x n f 2 d p1) else (true, p, []))
    else if s = 3 then sq (ps x n f 5 d p) (fun p1 => ps x n f 4 d p1)
    else if s = 4 then (if tK x n p = 3 ∧ (tV x n p = 42 ∨ tV x n p = 47) then sq (sq (ps x n f 5 d (tT x n p)) (fun p1 => (true, p1, [(if tV x n p = 42 then 4 else 5, 0)]))) (fun p1 => ps x n f 4 d p1) else (true, p, []))
    else if s = 5 then (if tK x n p = 1 then (if 9999 < tV x n p then (false, p, []) else (true, tT x n p, [(0, tV x n p)])) else if tK x n p = 2 ∧ (2 ≤ tV x n p ∧ tV x n p ≤ 8) then (true, tT x n p, [(1, tV x n p - 2)]) else if tK x n p = 3 ∧ tV x n p = 40 ∧ d ≠ 8 then sq (ps x n f 1 (d + 1) (tT x n p)) (fun p1 => if tK x n p1 = 3 ∧ tV x n p1 = 41 then (true, tT x n p1, []) else (false, p1, [])) else (false, p, []))
    else if s = 6 then sq (ps x n f 8 d p) (fun p1 => ps x n f 7 d p1)
    else if s = 7 then (if tK x n p = 2 ∧ tV x n p = 9 then sq (sq (ps x n f 8 d (tT x n p)) (fun p1 => (true, p1, [(10, 0)]))) (fun p1 => ps x n f 7 d p1) else (true, p, []))
    else if s = 8 then sq (ps x n f 10 d p) (fun p1 => ps x n f 9 d p1)
    else if s = 9 then (if tK x n p = 2 ∧ tV x n p = 10 then sq (sq (ps x n f 10 d (tT x n p)) (fun p1 => (true, p1, [(9, 0)]))) (fun p1 => ps x n f 9 d p1) else (true, p, []))
    else if s = 10 then (if tK x n p = 2 ∧ tV x n p = 11 then (if d = 8 then (false, p, []) else sq (ps x n f 10 (d + 1) (tT x n p)) (fun p1 => (true, p1, [(11, 0)]))) else if tK x n p = 3 ∧ tV x n p = 91 then (if d = 8 then (false, p, []) else sq (ps x n f 6 (d + 1) (tT x n p)) (fun p1 => if tK x n p1 = 3 ∧ tV x n p1 = 93 then (true, tT x n p1, []) else (false, p1, []))) else sq (ps x n f 1 d p) (fun p1 => ps x n f 11 d p1))
    else if s = 11 then (if tK x n p = 3 ∧ (tV x n p = 60 ∨ tV x n p = 62 ∨ tV x n p = 61) then sq (ps x n f 1 d (tT x n p)) (fun p1 => (true, p1, [(if tV x n p = 60 then 6 else if tV x n p = 62 then 7 else 8, 0)])) else (false, p, []))
    else (false, p, [])
section PSK
variable (x : Int → Int) (n : Int) (f : Nat) (d p : Int)
theorem ps_1 : ps x n (f + 1) 1 d p = sq (ps x n f 3 d p) (fun p1 => ps x n f 2 d p1) := by
  show (if (1 : Int) = 1 then _ else _) = _
  rw [if_pos rfl]
theorem ps_2 : ps x n (f + 1) 2 d p = (if tK x n p = 3 ∧ (tV x n p = 43 ∨ tV x n p = 45) then sq (sq (ps x n f 3 d (tT x n p)) (fun p1 => (true, p1, [(if tV x n p = 43 then 2 else 3, 0)]))) (fun p1 => ps x n f 2 d p1) else (true, p, [])) := by
  show (if (2 : Int) = 1 then _ else _) = _
  rw [if_neg (by decide), if_pos rfl]
theorem ps_3 : ps x n (f + 1) 3 d p = sq (ps x n f 5 d p) (fun p1 => ps x n f 4 d p1) := by
  show (if (3 : Int) = 1 then _ else _) = _
  rw [if_neg (by decide), if_neg (by decide), if_pos rfl]
theorem ps_4 : ps x n (f + 1) 4 d p = (if tK x n p = 3 ∧ (tV x n p = 42 ∨ tV x n p = 47) then sq (sq (ps x n f 5 d (tT x n p)) (fun p1 => (true, p1, [(if tV x n p = 42 then 4 else 5, 0)]))) (fun p1 => ps x n f 4 d p1) else (true, p, [])) := by
  show (if (4 : Int) = 1 then _ else _) = _
  rw [if_neg (by decide), if_neg (by decide), if_neg (by decide), if_pos rfl]
theorem ps_5 : ps x n (f + 1) 5 d p = (if tK x n p = 1 then (if 9999 < tV x n p then (false, p, []) else (true, tT x n p, [(0, tV x n p)])) else if tK x n p = 2 ∧ (2 ≤ tV x n p ∧ tV x n p ≤ 8) then (true, tT x n p, [(1, tV x n p - 2)]) else if tK x n p = 3 ∧ tV x n p = 40 ∧ d ≠ 8 then sq (ps x n f 1 (d + 1) (tT x n p)) (fun p1 => if tK x n p1 = 3 ∧ tV x n p1 = 41 then (true, tT x n p1, []) else (false, p1, [])) else (false, p, [])) := by
  show (if (5 : Int) = 1 then _ else _) = _
  rw [if_neg (by decide), if_neg (by decide), if_neg (by decide), if_neg (by decide), if_pos rfl]
theorem ps_6 : ps x n (f + 1) 6 d p = sq (ps x n f 8 d p) (fun p1 => ps x n f 7 d p1) := by
  show (if (6 : Int) = 1 then _ else _) = _
  rw [if_neg (by decide), if_neg (by decide), if_neg (by decide), if_neg (by decide), if_neg (by decide), if_pos rfl]
theorem ps_7 : ps x n (f + 1) 7 d p = (if tK x n p = 2 ∧ tV x n p = 9 then sq (sq (ps x n f 8 d (tT x n p)) (fun p1 => (true, p1, [(10, 0)]))) (fun p1 => ps x n f 7 d p1) else (true, p, [])) := by
  show (if (7 : Int) = 1 then _ else _) = _
  rw [if_neg (by decide), if_neg (by decide), if_neg (by decide), if_neg (by decide), if_neg (by decide), if_neg (by decide), if_pos rfl]
theorem ps_8 : ps x n (f + 1) 8 d p = sq (ps x n f 10 d p) (fun p1 => ps x n f 9 d p1) := by
  show (if (8 : Int) = 1 then _ else _) = _
  rw [if_neg (by decide), if_neg (by decide), if_neg (by decide), if_neg (by decide), if_neg (by decide), if_neg (by decide), if_neg (by decide), if_pos rfl]
theorem ps_9 : ps x n (f + 1) 9 d p = (if tK x n p = 2 ∧ tV x n p = 10 then sq (sq (ps x n f 10 d (tT x n p)) (fun p1 => (true, p1, [(9, 0)]))) (fun p1 => ps x n f 9 d p1) else (true, p, [])) := by
  show (if (9 : Int) = 1 then _ else _) = _
  rw [if_neg (by decide), if_neg (by decide), if_neg (by decide), if_neg (by decide), if_neg (by decide), if_neg (by decide), if_neg (by decide), if_neg (by decide), if_pos rfl]
theorem ps_10 : ps x n (f + 1) 10 d p = (if tK x n p = 2 ∧ tV x n p = 11 then (if d = 8 then (false, p, []) else sq (ps x n f 10 (d + 1) (tT x n p)) (fun p1 => (true, p1, [(11, 0)]))) else if tK x n p = 3 ∧ tV x n p = 91 then (if d = 8 then (false, p, []) else sq (ps x n f 6 (d + 1) (tT x n p)) (fun p1 => if tK x n p1 = 3 ∧ tV x n p1 = 93 then (true, tT x n p1, []) else (false, p1, []))) else sq (ps x n f 1 d p) (fun p1 => ps x n f 11 d p1)) := by
  show (if (10 : Int) = 1 then _ else _) = _
  rw [if_neg (by decide), if_neg (by decide), if_neg (by decide), if_neg (by decide), if_neg (by decide), if_neg (by decide), if_neg (by decide), if_neg (by decide), if_neg (by decide), if_pos rfl]
theorem ps_11 : ps x n (f + 1) 11 d p = (if tK x n p = 3 ∧ (tV x n p = 60 ∨ tV x n p = 62 ∨ tV x n p = 61) then sq (ps x n f 1 d (tT x n p)) (fun p1 => (true, p1, [(if tV x n p = 60 then 6 else if tV x n p = 62 then 7 else 8, 0)])) else (false, p, [])) := by
  show (if (11 : Int) = 1 then _ else _) = _
  rw [if_neg (by decide), if_neg (by decide), if_neg (by decide), if_neg (by decide), if_neg (by decide), if_neg (by decide), if_neg (by decide), if_neg (by decide), if_neg (by decide), if_neg (by decide), if_pos rfl]
end PSK
/-- a good end: within bounds; not more said than tokens read -/
def PRok (n p : Int) (r : PR) : Prop := (p ≤ r.2.1 ∧ r.2.1 ≤ n) ∧ (r.1 = true → (r.2.2.length : Int) ≤ r.2.1 - p)
theorem PRok_sq {n p : Int} {a : PR} {k : Int → PR} (ha : PRok n p a) (hk : a.1 = true → PRok n a.2.1 (k a.2.1)) : PRok n p (sq a k) := by
  unfold sq
  by_cases c : a.1 = true
  · rw [if_pos c]
    have h1 := ha.2 c
    obtain ⟨h2, h3⟩ := hk c
    refine ⟨⟨by show p ≤ (k a.2.1).2.1; have := ha.1; omega, h2.2⟩, fun q => ?_⟩
    have h4 := h3 q
    show ((a.2.2 ++ (k a.2.1).2.2).length : Int) ≤ (k a.2.1).2.1 - p
    rw [List.length_append]
    omega
  · rw [if_neg c]
    exact ha
theorem PRok_at {n p : Int} (h : p ≤ n) : PRok n p (true, p, []) := ⟨⟨Int.le_refl _, h⟩, fun _ => by show ((0 : Nat) : Int) ≤ p - p; omega⟩
theorem PRok_no {n p : Int} (h : p ≤ n) : PRok n p (false, p, []) := ⟨⟨Int.le_refl _, h⟩, fun q => by cases q⟩
/-- one token read, one thing said after it -/
theorem PRok_tk {x : Int → Int} {n p : Int} (hp : p ≤ n) (hk : tK x n p ≠ 0) {r : PR} (h : PRok n (tT x n p) r) : PRok n p r ∧ p + 1 ≤ tT x n p := by
  have h1 := tF_bd x hp
  have h2 := tT_bd x hp
  have h3 := tK_n0 hk
  refine ⟨⟨⟨by have := h.1.1; omega, h.1.2⟩, fun q => ?_⟩, by omega⟩
  have := h.2 q
  omega
theorem PRok_em {x : Int → Int} {n p : Int} (hp : p ≤ n) (hk : tK x n p ≠ 0) {a : PR} (h : PRok n (tT x n p) a) (e : Int × Int) : PRok n p (sq a (fun p1 => (true, p1, [e]))) := by
  have h1 := tF_bd x hp
  have h2 := tT_bd x hp
  have h3 := tK_n0 hk
  unfold sq
  by_cases c : a.1 = true
  · rw [if_pos c]
    have := h.2 c
    refine ⟨⟨by show p ≤ a.2.1; have := h.1; omega, h.1.2⟩, fun _ => ?_⟩
    show ((a.2.2 ++ [e]).length : Int) ≤ a.2.1 - p
    rw [List.length_append, List.length_singleton]
    omega
  · rw [if_neg c]
    exact (PRok_tk hp hk h).1
theorem PRok_sg {x : Int → Int} {n p : Int} (hp : p ≤ n) (c : Int) : PRok n p (if tK x n p = 3 ∧ tV x n p = c then (true, tT x n p, []) else (false, p, [])) := by
  have h1 := tF_bd x hp
  have h2 := tT_bd x hp
  split
  · exact ⟨⟨by show p ≤ tT x n p; omega, h2.2.1⟩, fun _ => by show ((0 : Nat) : Int) ≤ tT x n p - p; omega⟩
  · exact PRok_no hp
theorem ps_ok (x : Int → Int) (n : Int) : ∀ (f : Nat) (s d p : Int), p ≤ n → PRok n p (ps x n f s d p)
  | 0, _, _, p, hp => PRok_no hp
  | f + 1, s, d, p, hp => by
    have ih := ps_ok x n f
    have hT := (tT_bd x hp).2.1
    have rest : ∀ (a : PR) (s : Int), PRok n p a → PRok n p (sq a (fun p1 => ps x n f s d p1)) := fun a s ha => PRok_sq ha (fun _ => ih s d _ ha.1.2)
    by_cases c1 : s = 1
    · subst c1; rw [ps_1]; exact rest _ _ (ih 3 d p hp)
    by_cases c2 : s = 2
    · subst c2; rw [ps_2]; split
      · rename_i c; exact rest _ _ (PRok_em hp (by omega) (ih 3 d _ hT) _)
      · exact PRok_at hp
    by_cases c3 : s = 3
    · subst c3; rw [ps_3]; exact rest _ _ (ih 5 d p hp)
    by_cases c4 : s = 4
    · subst c4; rw [ps_4]; split
      · rename_i c; exact rest _ _ (PRok_em hp (by omega) (ih 5 d _ hT) _)
      · exact PRok_at hp
    by_cases c5 : s = 5
    · subst c5; rw [ps_5]; split
      · rename_i c
        split
        · exact PRok_no hp
        · have := PRok_em (x := x) hp (by omega) (PRok_at hT) (0, tV x n p)
          exact this
      · split
        · rename_i c
          have := PRok_em (x := x) hp (by omega) (PRok_at hT) (1, tV x n p - 2)
          exact this
        · split
          · rename_i c
            exact (PRok_tk hp (by omega) (PRok_sq (ih 1 (d + 1) _ hT) (fun _ => PRok_sg (ih 1 (d + 1) _ hT).1.2 41))).1
          · exact PRok_no hp
    by_cases c6 : s = 6
    · subst c6; rw [ps_6]; exact rest _ _ (ih 8 d p hp)
    by_cases c7 : s = 7
    · subst c7; rw [ps_7]; split
      · rename_i c; exact rest _ _ (PRok_em hp (by omega) (ih 8 d _ hT) _)
      · exact PRok_at hp
    by_cases c8 : s = 8
    · subst c8; rw [ps_8]; exact rest _ _ (ih 10 d p hp)
    by_cases c9 : s = 9
    · subst c9; rw [ps_9]; split
      · rename_i c; exact rest _ _ (PRok_em hp (by omega) (ih 10 d _ hT) _)
      · exact PRok_at hp
    by_cases c10 : s = 10
    · subst c10; rw [ps_10]; split
      · rename_i c
        split
        · exact PRok_no hp
        · exact PRok_em hp (by omega) (ih 10 (d + 1) _ hT) _
      · split
        · rename_i c
          split
          · exact PRok_no hp
          · exact (PRok_tk hp (by omega) (PRok_sq (ih 6 (d + 1) _ hT) (fun _ => PRok_sg (ih 6 (d + 1) _ hT).1.2 93))).1
        · exact rest _ _ (ih 1 d p hp)
    by_cases c11 : s = 11
    · subst c11; rw [ps_11]; split
      · rename_i c; exact PRok_em hp (by omega) (ih 1 d _ hT) _
      · exact PRok_no hp
    have e : ps x n (f + 1) s d p = (false, p, []) := by
      show (if s = 1 then _ else _) = _
      rw [if_neg c1, if_neg c2, if_neg c3, if_neg c4, if_neg c5, if_neg c6, if_neg c7, if_neg c8, if_neg c9, if_neg c10, if_neg c11]
    rw [e]
    exact PRok_no hp
