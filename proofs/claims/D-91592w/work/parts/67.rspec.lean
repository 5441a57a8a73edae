/-! PLAIN WORDS: tokens as the component has them -/
set_option maxRecDepth 100000
def kC (x : Int → Int) (n p : Int) : Int := if tK x n p = 0 then 3 else if tK x n p = 2 then 1 else if tK x n p = 1 then 2 else if tK x n p = 3 then x (tF x n p) else 4
theorem tK3 {x : Int → Int} {n p : Int} (h : tK x n p = 3) : isSg (x (tF x n p)) := by
  unfold tK at h
  unfold isSg
  by_cases c : tF x n p = n
  · rw [if_pos c] at h; cases h
  rw [if_neg c] at h
  by_cases c1 : fLe x (tF x n p) = true
  · rw [if_pos c1] at h; cases h
  rw [if_neg c1] at h
  by_cases c2 : fDi x (tF x n p) = true
  · rw [if_pos c2] at h; cases h
  rw [if_neg c2] at h
  by_cases c3 : x (tF x n p) = 43 ∨ x (tF x n p) = 45 ∨ x (tF x n p) = 42 ∨ x (tF x n p) = 47 ∨ x (tF x n p) = 40 ∨ x (tF x n p) = 41 ∨ x (tF x n p) = 91 ∨ x (tF x n p) = 93 ∨ x (tF x n p) = 60 ∨ x (tF x n p) = 62 ∨ x (tF x n p) = 61 ∨ x (tF x n p) = 59
  · exact c3
  · rw [if_neg c3] at h; cases h
theorem tV3 {x : Int → Int} {n p : Int} (h : tK x n p = 3) : tV x n p = x (tF x n p) := by
  unfold tV
  rw [if_neg (by omega), if_neg (by omega), if_neg (by omega)]
theorem kC_bd (x : Int → Int) (n p : Int) : 1 ≤ kC x n p ∧ kC x n p ≤ 93 := by
  unfold kC
  by_cases c0 : tK x n p = 0
  · rw [if_pos c0]; decide
  rw [if_neg c0]
  by_cases c2 : tK x n p = 2
  · rw [if_pos c2]; decide
  rw [if_neg c2]
  by_cases c1 : tK x n p = 1
  · rw [if_pos c1]; decide
  rw [if_neg c1]
  by_cases c3 : tK x n p = 3
  · rw [if_pos c3]
    have := tK3 c3
    unfold isSg at this
    omega
  rw [if_neg c3]
  decide
theorem kC_cases (x : Int → Int) (n p : Int) : (tK x n p = 0 ∧ kC x n p = 3) ∨ (tK x n p = 2 ∧ kC x n p = 1) ∨ (tK x n p = 1 ∧ kC x n p = 2) ∨ (tK x n p = 3 ∧ kC x n p = tV x n p ∧ 40 ≤ kC x n p) ∨ (tK x n p = 4 ∧ kC x n p = 4) := by
  have hb := tK_bd x n p
  unfold kC
  by_cases c0 : tK x n p = 0
  · rw [if_pos c0]; exact Or.inl ⟨c0, rfl⟩
  rw [if_neg c0]
  by_cases c2 : tK x n p = 2
  · rw [if_pos c2]; exact Or.inr (Or.inl ⟨c2, rfl⟩)
  rw [if_neg c2]
  by_cases c1 : tK x n p = 1
  · rw [if_pos c1]; exact Or.inr (Or.inr (Or.inl ⟨c1, rfl⟩))
  rw [if_neg c1]
  by_cases c3 : tK x n p = 3
  · rw [if_pos c3, tV3 c3]
    have := tK3 c3
    unfold isSg at this
    exact Or.inr (Or.inr (Or.inr (Or.inl ⟨c3, rfl, by omega⟩)))
  rw [if_neg c3]
  exact Or.inr (Or.inr (Or.inr (Or.inr ⟨by omega, rfl⟩)))
theorem eqN_at {x : Int → Int} {q : Int} {i : Nat} : ∀ m : Nat, eqN x q i m = true → ∀ j : Nat, j < m → x (q + j) = sCh i j
  | 0, _, _, h => absurd h (Nat.not_lt_zero _)
  | m + 1, h, j, hj => by
    unfold eqN at h
    simp only [Bool.and_eq_true, decide_eq_true_eq] at h
    by_cases c : j = m
    · subst c; exact h.2
    · exact eqN_at m h.1 j (by omega)
theorem w_diff : ∀ k : Nat, k < 12 → ∀ k1 : Nat, k1 < 12 → k ≠ k1 → sLn (wS k) ≠ sLn (wS k1) ∨ ∃ j : Fin 5, (j.val : Int) < sLn (wS k) ∧ sCh (wS k) (j.val : Int) ≠ sCh (wS k1) (j.val : Int) := by decide +kernel
theorem isW_one {x : Int → Int} {q t : Int} {k k1 : Nat} (hk : k < 12) (hk1 : k1 < 12) (h : isW x q t (wS k) = true) (h1 : isW x q t (wS k1) = true) : k = k1 := by
  by_cases c : k = k1
  · exact c
  · exfalso
    unfold isW at h h1
    simp only [Bool.and_eq_true, decide_eq_true_eq] at h h1
    rcases w_diff k hk k1 hk1 c with d | ⟨j, hj, hd⟩
    · exact d (h.1.symm.trans h1.1)
    · have e1 := eqN_at _ h.2 j.val (by omega)
      have e2 := eqN_at _ h1.2 j.val (by have := h.1; have := h1.1; omega)
      exact hd (e1.symm.trans e2)
theorem wIdN_yes {x : Int → Int} {q t : Int} : ∀ (m k0 k : Nat), k0 ≤ k → k < k0 + m → k0 + m ≤ 12 → isW x q t (wS k) = true → wIdN x q t m k0 = (k : Int)
  | 0, _, _, h1, h2, _, _ => absurd h2 (by omega)
  | m + 1, k0, k, h1, h2, h3, h => by
    show (if isW x q t (wS k0) = true then (k0 : Int) else wIdN x q t m (k0 + 1)) = _
    by_cases c : isW x q t (wS k0) = true
    · rw [if_pos c, isW_one (by omega) (by omega) c h]
    · rw [if_neg c]
      exact wIdN_yes m (k0 + 1) k (by by_cases e : k0 = k; · subst e; exact absurd h c
                                      · omega) (by omega) (by omega) h
theorem wIdN_no {x : Int → Int} {q t : Int} : ∀ (m k0 : Nat), 0 ≤ wIdN x q t m k0 → ∃ k : Nat, wIdN x q t m k0 = (k : Int) ∧ isW x q t (wS k) = true
  | 0, _, h => absurd h (by show ¬ (0 : Int) ≤ -1; decide)
  | m + 1, k0, h => by
    have e : wIdN x q t (m + 1) k0 = if isW x q t (wS k0) = true then (k0 : Int) else wIdN x q t m (k0 + 1) := rfl
    by_cases c : isW x q t (wS k0) = true
    · rw [e, if_pos c]
      exact ⟨k0, rfl, c⟩
    · rw [e, if_neg c] at h ⊢
      exact wIdN_no m (k0 + 1) h
theorem isW_iff {x : Int → Int} {q t : Int} {k : Nat} (hk : k < 12) : isW x q t (wS k) = true ↔ wId x q t = (k : Int) := by
  refine ⟨fun h => wIdN_yes 12 0 k (by omega) (by omega) (by omega) h, fun h => ?_⟩
  have h0 : 0 ≤ wIdN x q t 12 0 := by
    have h : wIdN x q t 12 0 = (k : Int) := h
    omega
  obtain ⟨k1, e1, e2⟩ := wIdN_no 12 0 h0
  have h : wIdN x q t 12 0 = (k : Int) := h
  have : k1 = k := by omega
  rw [← this]
  exact e2
theorem tV2 {x : Int → Int} {n p : Int} (h : tK x n p = 2) : tV x n p = wId x (tF x n p) (tT x n p) := by
  unfold tV
  rw [if_pos h]
/-- is the token that word -/
theorem tok_w {x : Int → Int} {n p : Int} {k : Nat} (hk : k < 12) : (kC x n p = 1 ∧ isW x (tF x n p) (tT x n p) (wS k) = true) ↔ (tK x n p = 2 ∧ tV x n p = (k : Int)) := by
  rw [isW_iff hk]
  rcases kC_cases x n p with ⟨h1, h2⟩ | ⟨h1, h2⟩ | ⟨h1, h2⟩ | ⟨h1, h2, h3⟩ | ⟨h1, h2⟩
  · exact ⟨fun q => by omega, fun q => by omega⟩
  · rw [tV2 h1]
    exact ⟨fun q => ⟨h1, q.2⟩, fun q => ⟨h2, q.2⟩⟩
  · exact ⟨fun q => by omega, fun q => by omega⟩
  · exact ⟨fun q => by omega, fun q => by omega⟩
  · exact ⟨fun q => by omega, fun q => by omega⟩
/-- which of the words from w0 on, so many -/
def wFd (x : Int → Int) (n p : Int) (w0 : Nat) : Nat → Int
  | 0 => -1
  | m + 1 => if kC x n p = 1 ∧ isW x (tF x n p) (tT x n p) (w0 + 1) = true then 0 else (if wFd x n p (w0 + 1) m = -1 then -1 else wFd x n p (w0 + 1) m + 1)
theorem ixF_10 : ∀ c : Fin 128, (0 ≤ sIx 10 (c.val : Int) ↔ ((c.val : Int) = 43 ∨ (c.val : Int) = 45 ∨ (c.val : Int) = 42 ∨ (c.val : Int) = 47 ∨ (c.val : Int) = 40 ∨ (c.val : Int) = 41 ∨ (c.val : Int) = 91 ∨ (c.val : Int) = 93 ∨ (c.val : Int) = 60 ∨ (c.val : Int) = 62 ∨ (c.val : Int) = 61 ∨ (c.val : Int) = 59)) := by decide +kernel
theorem sIx_10 {c : Int} (h : -128 ≤ c ∧ c ≤ 127) : 0 ≤ sIx 10 c ↔ isSg c := by
  by_cases h0 : 0 ≤ c
  · have := ixF_10 ⟨c.toNat, by omega⟩
    rw [show (((⟨c.toNat, by omega⟩ : Fin 128).val : Nat) : Int) = c by show ((c.toNat : Nat) : Int) = c; omega] at this
    exact this
  · unfold sIx
    rw [if_neg (by omega)]
    unfold isSg
    omega
theorem sIx_bd {c : Int} : -1 ≤ sIx 10 c ∧ sIx 10 c ≤ 100 := by
  have h : ∀ c : Fin 128, -1 ≤ sIx 10 (c.val : Int) ∧ sIx 10 (c.val : Int) ≤ 100 := by decide +kernel
  by_cases h0 : 0 ≤ c ∧ c ≤ 127
  · have := h ⟨c.toNat, by omega⟩
    rw [show (((⟨c.toNat, by omega⟩ : Fin 128).val : Nat) : Int) = c by show ((c.toNat : Nat) : Int) = c; omega] at this
    exact this
  · unfold sIx
    rw [if_neg h0]
    decide
theorem numC_s (x : Int → Int) (q : Int) {k : Int} (h : 0 ≤ k) : numC x q (k + 1).toNat = if 1000000 < (if 100000 < numC x q k.toNat then 1000000 else 10 * numC x q k.toNat + x (q + k) - 48) then 1000000 else (if 100000 < numC x q k.toNat then 1000000 else 10 * numC x q k.toNat + x (q + k) - 48) := by
  have e : (k + 1).toNat = k.toNat + 1 := by omega
  have e2 : ((k.toNat : Nat) : Int) = k := by omega
  rw [e]
  show (if 1000000 < (if 100000 < numC x q k.toNat then 1000000 else 10 * numC x q k.toNat + x (q + ((k.toNat : Nat) : Int)) - 48) then 1000000 else (if 100000 < numC x q k.toNat then 1000000 else 10 * numC x q k.toNat + x (q + ((k.toNat : Nat) : Int)) - 48)) = _
  rw [e2]
/-- a number: as the component has it -/
theorem tok_n {x : Int → Int} {n p : Int} (h : tK x n p = 1) : (0 ≤ numC x (tF x n p) (tT x n p - tF x n p).toNat ∧ numC x (tF x n p) (tT x n p - tF x n p).toNat ≤ 1000000) ∧ ((9999 < tV x n p ∧ 9999 < numC x (tF x n p) (tT x n p - tF x n p).toNat) ∨ (tV x n p ≤ 9999 ∧ numC x (tF x n p) (tT x n p - tF x n p).toNat = tV x n p)) := by
  have e : tV x n p = numM x (tF x n p) (tT x n p - tF x n p).toNat := by
    unfold tV
    rw [if_neg (by omega), if_pos h]
  obtain ⟨h1, h2, h3⟩ := num_rel x (tF x n p) _ (t_dig h)
  rw [e]
  exact ⟨h2, by omega⟩
/-! cells that a list takes -/
def cpN : Nat → Nat → Nat → Nat
  | 0, c, _ => c
  | k + 1, c, m => cpN k (if m = c then c + c / 2 else c) (m + 1)
def csN : Nat → Nat → Nat → Nat
  | 0, _, _ => 0
  | k + 1, c, m => (if m = c then 2 else 1) + csN k (if m = c then c + c / 2 else c) (m + 1)
def slN : Nat → Nat → Nat → Nat
  | 0, _, _ => 0
  | k + 1, c, m => 2 + (if m = c then c + c / 2 else 0) + slN k (if m = c then c + c / 2 else c) (m + 1)
theorem cpN_add : ∀ (j k c m : Nat), cpN (j + k) c m = cpN k (cpN j c m) (m + j)
  | 0, k, c, m => by rw [Nat.zero_add]; rfl
  | j + 1, k, c, m => by
    rw [show j + 1 + k = (j + k) + 1 by omega]
    show cpN (j + k) _ (m + 1) = cpN k (cpN j _ (m + 1)) (m + (j + 1))
    rw [cpN_add j k, show m + 1 + j = m + (j + 1) by omega]
theorem csN_add : ∀ (j k c m : Nat), csN (j + k) c m = csN j c m + csN k (cpN j c m) (m + j)
  | 0, k, c, m => by rw [Nat.zero_add]; show _ = 0 + _; rw [Nat.zero_add]; rfl
  | j + 1, k, c, m => by
    rw [show j + 1 + k = (j + k) + 1 by omega]
    show (if m = c then 2 else 1) + csN (j + k) _ (m + 1) = (if m = c then 2 else 1) + csN j _ (m + 1) + csN k (cpN j _ (m + 1)) (m + (j + 1))
    rw [csN_add j k, show m + 1 + j = m + (j + 1) by omega, Nat.add_assoc]
theorem slN_add : ∀ (j k c m : Nat), slN (j + k) c m = slN j c m + slN k (cpN j c m) (m + j)
  | 0, k, c, m => by rw [Nat.zero_add]; show _ = 0 + _; rw [Nat.zero_add]; rfl
  | j + 1, k, c, m => by
    rw [show j + 1 + k = (j + k) + 1 by omega]
    show 2 + (if m = c then c + c / 2 else 0) + slN (j + k) _ (m + 1) = 2 + (if m = c then c + c / 2 else 0) + slN j _ (m + 1) + slN k (cpN j _ (m + 1)) (m + (j + 1))
    rw [slN_add j k, show m + 1 + j = m + (j + 1) by omega]
    omega
/-- how far it grows -/
theorem cpN_bd : ∀ (k c m : Nat), 4 ≤ c → m ≤ c → m + k ≤ cpN k c m ∧ 4 ≤ cpN k c m ∧ c ≤ cpN k c m ∧ (cpN k c m ≤ c ∨ cpN k c m ≤ 2 * (m + k)) ∧ csN k c m ≤ 2 * k ∧ slN k c m + 4 * c ≤ 2 * k + 4 * cpN k c m
  | 0, c, m, h4, hm => by
    show m + 0 ≤ c ∧ 4 ≤ c ∧ c ≤ c ∧ (c ≤ c ∨ c ≤ _) ∧ 0 ≤ 2 * 0 ∧ 0 + 4 * c ≤ 2 * 0 + 4 * c
    omega
  | k + 1, c, m, h4, hm => by
    by_cases e : m = c
    · have ih := cpN_bd k (c + c / 2) (m + 1) (by omega) (by omega)
      have e1 : cpN (k + 1) c m = cpN k (c + c / 2) (m + 1) := by show cpN k (if m = c then _ else _) _ = _; rw [if_pos e]
      have e2 : csN (k + 1) c m = 2 + csN k (c + c / 2) (m + 1) := by show (if m = c then 2 else 1) + csN k (if m = c then _ else _) _ = _; rw [if_pos e, if_pos e]
      have e3 : slN (k + 1) c m = 2 + (c + c / 2) + slN k (c + c / 2) (m + 1) := by show 2 + (if m = c then c + c / 2 else 0) + slN k (if m = c then _ else _) _ = _; rw [if_pos e, if_pos e]
      rw [e1, e2, e3]
      omega
    · have ih := cpN_bd k c (m + 1) h4 (by omega)
      have e1 : cpN (k + 1) c m = cpN k c (m + 1) := by show cpN k (if m = c then _ else _) _ = _; rw [if_neg e]
      have e2 : csN (k + 1) c m = 1 + csN k c (m + 1) := by show (if m = c then 2 else 1) + csN k (if m = c then _ else _) _ = _; rw [if_neg e, if_neg e]
      have e3 : slN (k + 1) c m = 2 + 0 + slN k c (m + 1) := by show 2 + (if m = c then c + c / 2 else 0) + slN k (if m = c then _ else _) _ = _; rw [if_neg e, if_neg e]
      rw [e1, e2, e3]
      omega
