/-! THE COMPONENT: one more of a kind -/
set_option maxRecDepth 100000

/-- rows that agree as far as they go -/
def cEq (x y : va_E) : Prop := x = y ∨ (∃ (k n : Nat) (f g : Nat → Option Nat), x = .inl (k, n, ar f) ∧ y = .inl (k, n, ar g) ∧ ∀ j, j < n → f j = g j) ∨ ∃ (k n : Nat) (f g : Int → Int), x = .inl (k, n, ai f) ∧ y = .inl (k, n, ai g) ∧ ∀ j : Nat, j < n → f j = g j
theorem cEq_r {k n : Nat} {f g : Nat → Option Nat} (h : ∀ j, j < n → f j = g j) : cEq (.inl (k, n, ar f)) (.inl (k, n, ar g)) := Or.inr (Or.inl ⟨k, n, f, g, rfl, rfl, h⟩)
theorem cEq_i {k n : Nat} {f g : Int → Int} (h : ∀ j : Nat, j < n → f j = g j) : cEq (.inl (k, n, ai f)) (.inl (k, n, ai g)) := Or.inr (Or.inr ⟨k, n, f, g, rfl, rfl, h⟩)
theorem arrV_cg {k n : Nat} {f g : Nat → Value} (h : ∀ j, j < n → f j = g j) : arrV k n f = arrV k n g := by
  unfold arrV
  congr 1
  apply Array.ext
  · simp
  · intro i h1 h2
    simp at h1 ⊢
    exact h i h1
theorem cEq.at {D : va_G} {cl : List vw_C} {a : Nat} {x y : va_E} {H : Heap} (h : cEq x y) (hx : va_at D cl (a, x) H) : va_at D cl (a, y) H := by
  rcases h with rfl | ⟨k, n, f, g, rfl, rfl, hj⟩ | ⟨k, n, f, g, rfl, rfl, hj⟩
  · exact hx
  · have e : H[a]? = some (vp_cell k (n, ar f)) := hx
    show H[a]? = some (vp_cell k (n, ar g))
    rw [e, ar, ar, vp_cell_q, vp_cell_q, arrV_cg (fun j hjn => by rw [hj j hjn])]
  · have e : H[a]? = some (vp_cell k (n, ai f)) := hx
    show H[a]? = some (vp_cell k (n, ai g))
    rw [e, ai, ai, vp_cell_i, vp_cell_i, arrV_cg (fun j hjn => by rw [hj j hjn])]
theorem GW.cgE {D : va_G} {A V V1 : Nat → Prop} {ad : Nat → Nat} {C C1 : Nat → va_E} {H : Heap} (h : GW D A V ad C H) (hv : ∀ r, V1 r → V r) (hc : ∀ r, V1 r → cEq (C r) (C1 r)) : GW D A V1 ad C1 H := fun r hr => ⟨(hc r hr).at (h r (hv r hr)).1, (h r (hv r hr)).2.1, fun q hq e => (h r (hv r hr)).2.2 q (hv q hq) e⟩
theorem cCg_0 {E : Nat → ClassId} {ad ad1 L : Nat → Nat} {I : Nat → Int} {F F1 : Nat → Int → Int} {S : Nat → Nat → Int} {Y : Nat → Int → Int} {mo1 : Int} {cap1 : Nat} (k : Nat) (hk : k < 6) (hI : I 1 ≤ 100 ∧ I 4 ≤ 100 ∧ I 10 ≤ 100 ∧ I 18 ≤ 100) (hF : ∀ j, j ≠ 2 → j ≠ 3 → F1 j = F j) (hFk : ∀ j z, j ≠ 3 → z ≠ (k : Int) → F1 j z = F j z) (hF3 : ∀ z, z < 10 * (k : Int) ∨ 10 * (k : Int) + 10 ≤ z → F1 3 z = F 3 z) (hd : ∀ q, q ≠ 15 → q ≠ 29 → q ≠ 3000 + k → q ≠ 3100 + k → ad1 q = ad q) {q : Nat} (n11 : q ≠ 11) (n15 : q ≠ 15) (nk : q ≠ 3000 + k) (nh : q ≠ 3100 + k) : cEq (cC E ad I F S Y L q) (cC E ad1 (va_up I 1 (I 1 + 1)) F1 (up2 S 11 0 mo1) Y (va_up L 15 cap1) q) := by
  unfold cC
  by_cases h0 : q = 0
  · rw [if_pos h0, if_pos h0]
    refine Or.inl ?_
    unfold c0v
    rw [hd (1) (by omega) (by omega) (by omega) (by omega), hd (2) (by omega) (by omega) (by omega) (by omega), hd (3) (by omega) (by omega) (by omega) (by omega), hd (11) (by omega) (by omega) (by omega) (by omega), hd (12) (by omega) (by omega) (by omega) (by omega), hd (13) (by omega) (by omega) (by omega) (by omega), hd (14) (by omega) (by omega) (by omega) (by omega), hd (4) (by omega) (by omega) (by omega) (by omega), hd (5) (by omega) (by omega) (by omega) (by omega), hd (19) (by omega) (by omega) (by omega) (by omega), hd (20) (by omega) (by omega) (by omega) (by omega), hd (9) (by omega) (by omega) (by omega) (by omega), hd (6) (by omega) (by omega) (by omega) (by omega), hd (7) (by omega) (by omega) (by omega) (by omega), hd (10) (by omega) (by omega) (by omega) (by omega), hd (8) (by omega) (by omega) (by omega) (by omega), hd (30) (by omega) (by omega) (by omega) (by omega)]
    rfl
  rw [if_neg h0, if_neg h0]
  by_cases h1 : (1 ≤ q ∧ q ≤ 8) ∨ (21 ≤ q ∧ q ≤ 28) ∨ (1000 ≤ q ∧ q < 1600) ∨ (2000 ≤ q ∧ q < 2013) ∨ (3100 ≤ q ∧ q < 3200)
  · rw [if_pos h1, if_pos h1]
    by_cases c31 : 3100 ≤ q ∧ q < 3200
    · refine cEq_i (fun j hj => ?_)
      have ea : (aK q).2 = 10 := by unfold aK; repeat (first | rw [if_neg (by omega)])
      rw [ea] at hj
      unfold aY
      rw [if_neg (by omega), if_neg (by omega), if_neg (by omega), if_neg (by omega), if_neg (by omega), if_neg (by omega), if_pos c31, if_neg (by omega), if_neg (by omega), if_neg (by omega), if_neg (by omega), if_neg (by omega), if_neg (by omega), if_pos c31]
      exact (hF3 _ (by omega)).symm
    · refine Or.inl ?_
      unfold aY
      rw [hF 47 (by decide) (by decide), hF 16 (by decide) (by decide), hF 17 (by decide) (by decide), hF 42 (by decide) (by decide), hF 43 (by decide) (by decide), hF 46 (by decide) (by decide), if_neg c31, if_neg c31]
  rw [if_neg h1, if_neg h1]
  by_cases h2 : q = 9
  · rw [if_pos h2, if_pos h2]
    exact cEq_r (fun j hj => congrArg some (hd (1000 + j) (by omega) (by omega) (by omega) (by omega)).symm)
  rw [if_neg h2, if_neg h2]
  by_cases h3 : q = 10
  · rw [if_pos h3, if_pos h3]
    exact cEq_r (fun j hj => congrArg some (hd (2000 + j) (by omega) (by omega) (by omega) (by omega)).symm)
  rw [if_neg h3, if_neg h3]
  by_cases h4 : 11 ≤ q ∧ q ≤ 14
  · rw [if_pos h4, if_pos h4]
    refine Or.inl ?_
    rcases (show q = 11 ∨ q = 12 ∨ q = 13 ∨ q = 14 by omega) with rfl | rfl | rfl | rfl
    · exact absurd rfl n11
    · rw [hd (12 + 4) (by omega) (by omega) (by omega) (by omega)]; rfl
    · rw [hd (13 + 4) (by omega) (by omega) (by omega) (by omega)]; rfl
    · rw [hd (14 + 4) (by omega) (by omega) (by omega) (by omega)]; rfl
  rw [if_neg h4, if_neg h4]
  by_cases h5 : 15 ≤ q ∧ q ≤ 18
  · rw [if_pos h5, if_pos h5]
    rcases (show q = 15 ∨ q = 16 ∨ q = 17 ∨ q = 18 by omega) with rfl | rfl | rfl | rfl
    · exact absurd rfl n15
    · refine cEq_r (f := fun j => if (j : Int) < I 4 then some (ad (3200 + j)) else none) (g := fun j => if (j : Int) < I 4 then some (ad1 (3200 + j)) else none) (fun j hj => ?_)
      by_cases hc : (j : Int) < I 4
      · rw [if_pos hc, if_pos hc, hd (3200 + j) (by omega) (by omega) (by omega) (by omega)]
      · rw [if_neg hc, if_neg hc]
    · refine cEq_r (f := fun j => if (j : Int) < I 10 then some (ad (3300 + j)) else none) (g := fun j => if (j : Int) < I 10 then some (ad1 (3300 + j)) else none) (fun j hj => ?_)
      by_cases hc : (j : Int) < I 10
      · rw [if_pos hc, if_pos hc, hd (3300 + j) (by omega) (by omega) (by omega) (by omega)]
      · rw [if_neg hc, if_neg hc]
    · refine cEq_r (f := fun j => if (j : Int) < I 18 then some (ad (3400 + j)) else none) (g := fun j => if (j : Int) < I 18 then some (ad1 (3400 + j)) else none) (fun j hj => ?_)
      by_cases hc : (j : Int) < I 18
      · rw [if_pos hc, if_pos hc, hd (3400 + j) (by omega) (by omega) (by omega) (by omega)]
      · rw [if_neg hc, if_neg hc]
  rw [if_neg h5, if_neg h5]
  by_cases h6 : q = 19 ∨ q = 20
  · rw [if_pos h6, if_pos h6]
    refine Or.inl ?_
    rcases h6 with rfl | rfl
    · unfold c1v; rw [hd (21 + 4 * (19 - 19)) (by omega) (by omega) (by omega) (by omega), hd (22 + 4 * (19 - 19)) (by omega) (by omega) (by omega) (by omega), hd (23 + 4 * (19 - 19)) (by omega) (by omega) (by omega) (by omega), hd (24 + 4 * (19 - 19)) (by omega) (by omega) (by omega) (by omega), hd (0) (by omega) (by omega) (by omega) (by omega)]; rfl
    · unfold c1v; rw [hd (21 + 4 * (20 - 19)) (by omega) (by omega) (by omega) (by omega), hd (22 + 4 * (20 - 19)) (by omega) (by omega) (by omega) (by omega), hd (23 + 4 * (20 - 19)) (by omega) (by omega) (by omega) (by omega), hd (24 + 4 * (20 - 19)) (by omega) (by omega) (by omega) (by omega), hd (0) (by omega) (by omega) (by omega) (by omega)]; rfl
  rw [if_neg h6, if_neg h6]
  by_cases h7 : 3000 ≤ q ∧ q < 3100
  · rw [if_pos h7, if_pos h7]
    refine Or.inl ?_
    rw [hFk 2 ((q - 3000 : Nat) : Int) (by decide) (by omega), hd (q + 100) (by omega) (by omega) (by omega) (by omega)]
  rw [if_neg h7, if_neg h7]
  by_cases h8 : 3200 ≤ q ∧ q < 3300
  · rw [if_pos h8, if_pos h8]
    refine Or.inl ?_
    rw [hF 5 (by decide) (by decide), hF 6 (by decide) (by decide), hF 7 (by decide) (by decide), hF 8 (by decide) (by decide), hF 9 (by decide) (by decide)]
  rw [if_neg h8, if_neg h8]
  by_cases h9 : 3300 ≤ q ∧ q < 3400
  · rw [if_pos h9, if_pos h9]
    refine Or.inl ?_
    rw [hF 11 (by decide) (by decide), hF 12 (by decide) (by decide), hF 13 (by decide) (by decide), hF 14 (by decide) (by decide)]
  rw [if_neg h9, if_neg h9]
  by_cases h10 : 3400 ≤ q ∧ q < 3500
  · rw [if_pos h10, if_pos h10]
    refine Or.inl ?_
    rw [hF 19 (by decide) (by decide), hF 20 (by decide) (by decide), hF 21 (by decide) (by decide)]
  rw [if_neg h10, if_neg h10]
  by_cases h11 : q = 30
  · rw [if_pos h11, if_pos h11]
    refine cEq_r (fun j hj => ?_)
    show (if F 64 j = -1 then none else some (ad (31 + j))) = if F1 64 j = -1 then none else some (ad1 (31 + j))
    rw [hF 64 (by decide) (by decide), hd (31 + j) (by omega) (by omega) (by omega) (by omega)]
  rw [if_neg h11, if_neg h11]
  by_cases h12 : q = 31 ∨ q = 32
  · rw [if_pos h12, if_pos h12]
    rw [hF 64 (by decide) (by decide), hF 65 (by decide) (by decide)]
    exact cEq_r (fun j hj => congrArg some (hd (4000 + 1000 * (q - 31) + j) (by omega) (by omega) (by omega) (by omega)).symm)
  rw [if_neg h12, if_neg h12]
  refine Or.inl ?_
  rw [hF 62 (by decide) (by decide), hF 63 (by decide) (by decide), hF 64 (by decide) (by decide)]
theorem cCg_1 {E : Nat → ClassId} {ad ad1 L : Nat → Nat} {I : Nat → Int} {F F1 : Nat → Int → Int} {S : Nat → Nat → Int} {Y : Nat → Int → Int} {mo1 : Int} {cap1 : Nat} {y21 : Int → Int} (k : Nat) (hk : k < 12) (hI : I 1 ≤ 100 ∧ I 4 ≤ 100 ∧ I 10 ≤ 100 ∧ I 18 ≤ 100) (hF : ∀ j, j ≠ 5 → j ≠ 6 → j ≠ 7 → j ≠ 8 → j ≠ 27 → F1 j = F j) (hFk : ∀ j z, z ≠ (k : Int) → F1 j z = F j z) (hd : ∀ q, q ≠ 16 → q ≠ 29 → q ≠ 3200 + k → ad1 q = ad q) {q : Nat} (n12 : q ≠ 12) (n16 : q ≠ 16) (n21 : q ≠ 21) (nk : q ≠ 3200 + k) : cEq (cC E ad I F S Y L q) (cC E ad1 (va_up I 4 (I 4 + 1)) F1 (up2 S 12 0 mo1) (va_up Y 21 y21) (va_up L 16 cap1) q) := by
  unfold cC
  by_cases h0 : q = 0
  · rw [if_pos h0, if_pos h0]
    refine Or.inl ?_
    unfold c0v
    rw [hd (1) (by omega) (by omega) (by omega), hd (2) (by omega) (by omega) (by omega), hd (3) (by omega) (by omega) (by omega), hd (11) (by omega) (by omega) (by omega), hd (12) (by omega) (by omega) (by omega), hd (13) (by omega) (by omega) (by omega), hd (14) (by omega) (by omega) (by omega), hd (4) (by omega) (by omega) (by omega), hd (5) (by omega) (by omega) (by omega), hd (19) (by omega) (by omega) (by omega), hd (20) (by omega) (by omega) (by omega), hd (9) (by omega) (by omega) (by omega), hd (6) (by omega) (by omega) (by omega), hd (7) (by omega) (by omega) (by omega), hd (10) (by omega) (by omega) (by omega), hd (8) (by omega) (by omega) (by omega), hd (30) (by omega) (by omega) (by omega)]
    rfl
  rw [if_neg h0, if_neg h0]
  by_cases h1 : (1 ≤ q ∧ q ≤ 8) ∨ (21 ≤ q ∧ q ≤ 28) ∨ (1000 ≤ q ∧ q < 1600) ∨ (2000 ≤ q ∧ q < 2013) ∨ (3100 ≤ q ∧ q < 3200)
  · rw [if_pos h1, if_pos h1]
    refine Or.inl ?_
    unfold aY
    rw [hF 47 (by decide) (by decide) (by decide) (by decide) (by decide), hF 16 (by decide) (by decide) (by decide) (by decide) (by decide), hF 17 (by decide) (by decide) (by decide) (by decide) (by decide), hF 42 (by decide) (by decide) (by decide) (by decide) (by decide), hF 43 (by decide) (by decide) (by decide) (by decide) (by decide), hF 46 (by decide) (by decide) (by decide) (by decide) (by decide), hF 3 (by decide) (by decide) (by decide) (by decide) (by decide), va_up_ne Y _ n21]
  rw [if_neg h1, if_neg h1]
  by_cases h2 : q = 9
  · rw [if_pos h2, if_pos h2]
    exact cEq_r (fun j hj => congrArg some (hd (1000 + j) (by omega) (by omega) (by omega)).symm)
  rw [if_neg h2, if_neg h2]
  by_cases h3 : q = 10
  · rw [if_pos h3, if_pos h3]
    exact cEq_r (fun j hj => congrArg some (hd (2000 + j) (by omega) (by omega) (by omega)).symm)
  rw [if_neg h3, if_neg h3]
  by_cases h4 : 11 ≤ q ∧ q ≤ 14
  · rw [if_pos h4, if_pos h4]
    refine Or.inl ?_
    rcases (show q = 11 ∨ q = 12 ∨ q = 13 ∨ q = 14 by omega) with rfl | rfl | rfl | rfl
    · rw [hd (11 + 4) (by omega) (by omega) (by omega)]; rfl
    · exact absurd rfl n12
    · rw [hd (13 + 4) (by omega) (by omega) (by omega)]; rfl
    · rw [hd (14 + 4) (by omega) (by omega) (by omega)]; rfl
  rw [if_neg h4, if_neg h4]
  by_cases h5 : 15 ≤ q ∧ q ≤ 18
  · rw [if_pos h5, if_pos h5]
    rcases (show q = 15 ∨ q = 16 ∨ q = 17 ∨ q = 18 by omega) with rfl | rfl | rfl | rfl
    · refine cEq_r (f := fun j => if (j : Int) < I 1 then some (ad (3000 + j)) else none) (g := fun j => if (j : Int) < I 1 then some (ad1 (3000 + j)) else none) (fun j hj => ?_)
      by_cases hc : (j : Int) < I 1
      · rw [if_pos hc, if_pos hc, hd (3000 + j) (by omega) (by omega) (by omega)]
      · rw [if_neg hc, if_neg hc]
    · exact absurd rfl n16
    · refine cEq_r (f := fun j => if (j : Int) < I 10 then some (ad (3300 + j)) else none) (g := fun j => if (j : Int) < I 10 then some (ad1 (3300 + j)) else none) (fun j hj => ?_)
      by_cases hc : (j : Int) < I 10
      · rw [if_pos hc, if_pos hc, hd (3300 + j) (by omega) (by omega) (by omega)]
      · rw [if_neg hc, if_neg hc]
    · refine cEq_r (f := fun j => if (j : Int) < I 18 then some (ad (3400 + j)) else none) (g := fun j => if (j : Int) < I 18 then some (ad1 (3400 + j)) else none) (fun j hj => ?_)
      by_cases hc : (j : Int) < I 18
      · rw [if_pos hc, if_pos hc, hd (3400 + j) (by omega) (by omega) (by omega)]
      · rw [if_neg hc, if_neg hc]
  rw [if_neg h5, if_neg h5]
  by_cases h6 : q = 19 ∨ q = 20
  · rw [if_pos h6, if_pos h6]
    refine Or.inl ?_
    rcases h6 with rfl | rfl
    · unfold c1v; rw [hd (21 + 4 * (19 - 19)) (by omega) (by omega) (by omega), hd (22 + 4 * (19 - 19)) (by omega) (by omega) (by omega), hd (23 + 4 * (19 - 19)) (by omega) (by omega) (by omega), hd (24 + 4 * (19 - 19)) (by omega) (by omega) (by omega), hd (0) (by omega) (by omega) (by omega)]; rfl
    · unfold c1v; rw [hd (21 + 4 * (20 - 19)) (by omega) (by omega) (by omega), hd (22 + 4 * (20 - 19)) (by omega) (by omega) (by omega), hd (23 + 4 * (20 - 19)) (by omega) (by omega) (by omega), hd (24 + 4 * (20 - 19)) (by omega) (by omega) (by omega), hd (0) (by omega) (by omega) (by omega)]; rfl
  rw [if_neg h6, if_neg h6]
  by_cases h7 : 3000 ≤ q ∧ q < 3100
  · rw [if_pos h7, if_pos h7]
    refine Or.inl ?_
    rw [hF 2 (by decide) (by decide) (by decide) (by decide) (by decide), hd (q + 100) (by omega) (by omega) (by omega)]
  rw [if_neg h7, if_neg h7]
  by_cases h8 : 3200 ≤ q ∧ q < 3300
  · rw [if_pos h8, if_pos h8]
    refine Or.inl ?_
    rw [hFk 5 ((q - 3200 : Nat) : Int) (by omega), hFk 6 ((q - 3200 : Nat) : Int) (by omega), hFk 7 ((q - 3200 : Nat) : Int) (by omega), hFk 8 ((q - 3200 : Nat) : Int) (by omega), hF 9 (by decide) (by decide) (by decide) (by decide) (by decide)]
  rw [if_neg h8, if_neg h8]
  by_cases h9 : 3300 ≤ q ∧ q < 3400
  · rw [if_pos h9, if_pos h9]
    refine Or.inl ?_
    rw [hF 11 (by decide) (by decide) (by decide) (by decide) (by decide), hF 12 (by decide) (by decide) (by decide) (by decide) (by decide), hF 13 (by decide) (by decide) (by decide) (by decide) (by decide), hF 14 (by decide) (by decide) (by decide) (by decide) (by decide)]
  rw [if_neg h9, if_neg h9]
  by_cases h10 : 3400 ≤ q ∧ q < 3500
  · rw [if_pos h10, if_pos h10]
    refine Or.inl ?_
    rw [hF 19 (by decide) (by decide) (by decide) (by decide) (by decide), hF 20 (by decide) (by decide) (by decide) (by decide) (by decide), hF 21 (by decide) (by decide) (by decide) (by decide) (by decide)]
  rw [if_neg h10, if_neg h10]
  by_cases h11 : q = 30
  · rw [if_pos h11, if_pos h11]
    refine cEq_r (fun j hj => ?_)
    show (if F 64 j = -1 then none else some (ad (31 + j))) = if F1 64 j = -1 then none else some (ad1 (31 + j))
    rw [hF 64 (by decide) (by decide) (by decide) (by decide) (by decide), hd (31 + j) (by omega) (by omega) (by omega)]
  rw [if_neg h11, if_neg h11]
  by_cases h12 : q = 31 ∨ q = 32
  · rw [if_pos h12, if_pos h12]
    rw [hF 64 (by decide) (by decide) (by decide) (by decide) (by decide), hF 65 (by decide) (by decide) (by decide) (by decide) (by decide)]
    exact cEq_r (fun j hj => congrArg some (hd (4000 + 1000 * (q - 31) + j) (by omega) (by omega) (by omega)).symm)
  rw [if_neg h12, if_neg h12]
  refine Or.inl ?_
  rw [hF 62 (by decide) (by decide) (by decide) (by decide) (by decide), hF 63 (by decide) (by decide) (by decide) (by decide) (by decide), hF 64 (by decide) (by decide) (by decide) (by decide) (by decide)]
theorem cCg_2 {E : Nat → ClassId} {ad ad1 L : Nat → Nat} {I : Nat → Int} {F F1 : Nat → Int → Int} {S : Nat → Nat → Int} {Y : Nat → Int → Int} {mo1 : Int} {cap1 : Nat} (k : Nat) (hk : k < 4) (hI : I 1 ≤ 100 ∧ I 4 ≤ 100 ∧ I 10 ≤ 100 ∧ I 18 ≤ 100) (hF : ∀ j, j ≠ 11 → j ≠ 12 → j ≠ 13 → F1 j = F j) (hFk : ∀ j z, z ≠ (k : Int) → F1 j z = F j z) (hd : ∀ q, q ≠ 17 → q ≠ 29 → q ≠ 3300 + k → ad1 q = ad q) {q : Nat} (n13 : q ≠ 13) (n17 : q ≠ 17) (nk : q ≠ 3300 + k) : cEq (cC E ad I F S Y L q) (cC E ad1 (va_up I 10 (I 10 + 1)) F1 (up2 S 13 0 mo1) Y (va_up L 17 cap1) q) := by
  unfold cC
  by_cases h0 : q = 0
  · rw [if_pos h0, if_pos h0]
    refine Or.inl ?_
    unfold c0v
    rw [hd (1) (by omega) (by omega) (by omega), hd (2) (by omega) (by omega) (by omega), hd (3) (by omega) (by omega) (by omega), hd (11) (by omega) (by omega) (by omega), hd (12) (by omega) (by omega) (by omega), hd (13) (by omega) (by omega) (by omega), hd (14) (by omega) (by omega) (by omega), hd (4) (by omega) (by omega) (by omega), hd (5) (by omega) (by omega) (by omega), hd (19) (by omega) (by omega) (by omega), hd (20) (by omega) (by omega) (by omega), hd (9) (by omega) (by omega) (by omega), hd (6) (by omega) (by omega) (by omega), hd (7) (by omega) (by omega) (by omega), hd (10) (by omega) (by omega) (by omega), hd (8) (by omega) (by omega) (by omega), hd (30) (by omega) (by omega) (by omega)]
    rfl
  rw [if_neg h0, if_neg h0]
  by_cases h1 : (1 ≤ q ∧ q ≤ 8) ∨ (21 ≤ q ∧ q ≤ 28) ∨ (1000 ≤ q ∧ q < 1600) ∨ (2000 ≤ q ∧ q < 2013) ∨ (3100 ≤ q ∧ q < 3200)
  · rw [if_pos h1, if_pos h1]
    refine Or.inl ?_
    unfold aY
    rw [hF 47 (by decide) (by decide) (by decide), hF 16 (by decide) (by decide) (by decide), hF 17 (by decide) (by decide) (by decide), hF 42 (by decide) (by decide) (by decide), hF 43 (by decide) (by decide) (by decide), hF 46 (by decide) (by decide) (by decide), hF 3 (by decide) (by decide) (by decide)]
  rw [if_neg h1, if_neg h1]
  by_cases h2 : q = 9
  · rw [if_pos h2, if_pos h2]
    exact cEq_r (fun j hj => congrArg some (hd (1000 + j) (by omega) (by omega) (by omega)).symm)
  rw [if_neg h2, if_neg h2]
  by_cases h3 : q = 10
  · rw [if_pos h3, if_pos h3]
    exact cEq_r (fun j hj => congrArg some (hd (2000 + j) (by omega) (by omega) (by omega)).symm)
  rw [if_neg h3, if_neg h3]
  by_cases h4 : 11 ≤ q ∧ q ≤ 14
  · rw [if_pos h4, if_pos h4]
    refine Or.inl ?_
    rcases (show q = 11 ∨ q = 12 ∨ q = 13 ∨ q = 14 by omega) with rfl | rfl | rfl | rfl
    · rw [hd (11 + 4) (by omega) (by omega) (by omega)]; rfl
    · rw [hd (12 + 4) (by omega) (by omega) (by omega)]; rfl
    · exact absurd rfl n13
    · rw [hd (14 + 4) (by omega) (by omega) (by omega)]; rfl
  rw [if_neg h4, if_neg h4]
  by_cases h5 : 15 ≤ q ∧ q ≤ 18
  · rw [if_pos h5, if_pos h5]
    rcases (show q = 15 ∨ q = 16 ∨ q = 17 ∨ q = 18 by omega) with rfl | rfl | rfl | rfl
    · refine cEq_r (f := fun j => if (j : Int) < I 1 then some (ad (3000 + j)) else none) (g := fun j => if (j : Int) < I 1 then some (ad1 (3000 + j)) else none) (fun j hj => ?_)
      by_cases hc : (j : Int) < I 1
      · rw [if_pos hc, if_pos hc, hd (3000 + j) (by omega) (by omega) (by omega)]
      · rw [if_neg hc, if_neg hc]
    · refine cEq_r (f := fun j => if (j : Int) < I 4 then some (ad (3200 + j)) else none) (g := fun j => if (j : Int) < I 4 then some (ad1 (3200 + j)) else none) (fun j hj => ?_)
      by_cases hc : (j : Int) < I 4
      · rw [if_pos hc, if_pos hc, hd (3200 + j) (by omega) (by omega) (by omega)]
      · rw [if_neg hc, if_neg hc]
    · exact absurd rfl n17
    · refine cEq_r (f := fun j => if (j : Int) < I 18 then some (ad (3400 + j)) else none) (g := fun j => if (j : Int) < I 18 then some (ad1 (3400 + j)) else none) (fun j hj => ?_)
      by_cases hc : (j : Int) < I 18
      · rw [if_pos hc, if_pos hc, hd (3400 + j) (by omega) (by omega) (by omega)]
      · rw [if_neg hc, if_neg hc]
  rw [if_neg h5, if_neg h5]
  by_cases h6 : q = 19 ∨ q = 20
  · rw [if_pos h6, if_pos h6]
    refine Or.inl ?_
    rcases h6 with rfl | rfl
    · unfold c1v; rw [hd (21 + 4 * (19 - 19)) (by omega) (by omega) (by omega), hd (22 + 4 * (19 - 19)) (by omega) (by omega) (by omega), hd (23 + 4 * (19 - 19)) (by omega) (by omega) (by omega), hd (24 + 4 * (19 - 19)) (by omega) (by omega) (by omega), hd (0) (by omega) (by omega) (by omega)]; rfl
    · unfold c1v; rw [hd (21 + 4 * (20 - 19)) (by omega) (by omega) (by omega), hd (22 + 4 * (20 - 19)) (by omega) (by omega) (by omega), hd (23 + 4 * (20 - 19)) (by omega) (by omega) (by omega), hd (24 + 4 * (20 - 19)) (by omega) (by omega) (by omega), hd (0) (by omega) (by omega) (by omega)]; rfl
  rw [if_neg h6, if_neg h6]
  by_cases h7 : 3000 ≤ q ∧ q < 3100
  · rw [if_pos h7, if_pos h7]
    refine Or.inl ?_
    rw [hF 2 (by decide) (by decide) (by decide), hd (q + 100) (by omega) (by omega) (by omega)]
  rw [if_neg h7, if_neg h7]
  by_cases h8 : 3200 ≤ q ∧ q < 3300
  · rw [if_pos h8, if_pos h8]
    refine Or.inl ?_
    rw [hF 5 (by decide) (by decide) (by decide), hF 6 (by decide) (by decide) (by decide), hF 7 (by decide) (by decide) (by decide), hF 8 (by decide) (by decide) (by decide), hF 9 (by decide) (by decide) (by decide)]
  rw [if_neg h8, if_neg h8]
  by_cases h9 : 3300 ≤ q ∧ q < 3400
  · rw [if_pos h9, if_pos h9]
    refine Or.inl ?_
    rw [hFk 11 ((q - 3300 : Nat) : Int) (by omega), hFk 12 ((q - 3300 : Nat) : Int) (by omega), hFk 13 ((q - 3300 : Nat) : Int) (by omega), hF 14 (by decide) (by decide) (by decide)]
  rw [if_neg h9, if_neg h9]
  by_cases h10 : 3400 ≤ q ∧ q < 3500
  · rw [if_pos h10, if_pos h10]
    refine Or.inl ?_
    rw [hF 19 (by decide) (by decide) (by decide), hF 20 (by decide) (by decide) (by decide), hF 21 (by decide) (by decide) (by decide)]
  rw [if_neg h10, if_neg h10]
  by_cases h11 : q = 30
  · rw [if_pos h11, if_pos h11]
    refine cEq_r (fun j hj => ?_)
    show (if F 64 j = -1 then none else some (ad (31 + j))) = if F1 64 j = -1 then none else some (ad1 (31 + j))
    rw [hF 64 (by decide) (by decide) (by decide), hd (31 + j) (by omega) (by omega) (by omega)]
  rw [if_neg h11, if_neg h11]
  by_cases h12 : q = 31 ∨ q = 32
  · rw [if_pos h12, if_pos h12]
    rw [hF 64 (by decide) (by decide) (by decide), hF 65 (by decide) (by decide) (by decide)]
    exact cEq_r (fun j hj => congrArg some (hd (4000 + 1000 * (q - 31) + j) (by omega) (by omega) (by omega)).symm)
  rw [if_neg h12, if_neg h12]
  refine Or.inl ?_
  rw [hF 62 (by decide) (by decide) (by decide), hF 63 (by decide) (by decide) (by decide), hF 64 (by decide) (by decide) (by decide)]
theorem cCg_3 {E : Nat → ClassId} {ad ad1 L : Nat → Nat} {I : Nat → Int} {F F1 : Nat → Int → Int} {S : Nat → Nat → Int} {Y : Nat → Int → Int} {mo1 : Int} {cap1 : Nat} (k : Nat) (hk : k < 8) (hI : I 1 ≤ 100 ∧ I 4 ≤ 100 ∧ I 10 ≤ 100 ∧ I 18 ≤ 100) (hF : ∀ j, j ≠ 19 → j ≠ 20 → j ≠ 21 → F1 j = F j) (hFk : ∀ j z, z ≠ (k : Int) → F1 j z = F j z) (hd : ∀ q, q ≠ 18 → q ≠ 29 → q ≠ 3400 + k → ad1 q = ad q) {q : Nat} (n14 : q ≠ 14) (n18 : q ≠ 18) (nk : q ≠ 3400 + k) : cEq (cC E ad I F S Y L q) (cC E ad1 (va_up I 18 (I 18 + 1)) F1 (up2 S 14 0 mo1) Y (va_up L 18 cap1) q) := by
  unfold cC
  by_cases h0 : q = 0
  · rw [if_pos h0, if_pos h0]
    refine Or.inl ?_
    unfold c0v
    rw [hd (1) (by omega) (by omega) (by omega), hd (2) (by omega) (by omega) (by omega), hd (3) (by omega) (by omega) (by omega), hd (11) (by omega) (by omega) (by omega), hd (12) (by omega) (by omega) (by omega), hd (13) (by omega) (by omega) (by omega), hd (14) (by omega) (by omega) (by omega), hd (4) (by omega) (by omega) (by omega), hd (5) (by omega) (by omega) (by omega), hd (19) (by omega) (by omega) (by omega), hd (20) (by omega) (by omega) (by omega), hd (9) (by omega) (by omega) (by omega), hd (6) (by omega) (by omega) (by omega), hd (7) (by omega) (by omega) (by omega), hd (10) (by omega) (by omega) (by omega), hd (8) (by omega) (by omega) (by omega), hd (30) (by omega) (by omega) (by omega)]
    rfl
  rw [if_neg h0, if_neg h0]
  by_cases h1 : (1 ≤ q ∧ q ≤ 8) ∨ (21 ≤ q ∧ q ≤ 28) ∨ (1000 ≤ q ∧ q < 1600) ∨ (2000 ≤ q ∧ q < 2013) ∨ (3100 ≤ q ∧ q < 3200)
  · rw [if_pos h1, if_pos h1]
    refine Or.inl ?_
    unfold aY
    rw [hF 47 (by decide) (by decide) (by decide), hF 16 (by decide) (by decide) (by decide), hF 17 (by decide) (by decide) (by decide), hF 42 (by decide) (by decide) (by decide), hF 43 (by decide) (by decide) (by decide), hF 46 (by decide) (by decide) (by decide), hF 3 (by decide) (by decide) (by decide)]
  rw [if_neg h1, if_neg h1]
  by_cases h2 : q = 9
  · rw [if_pos h2, if_pos h2]
    exact cEq_r (fun j hj => congrArg some (hd (1000 + j) (by omega) (by omega) (by omega)).symm)
  rw [if_neg h2, if_neg h2]
  by_cases h3 : q = 10
  · rw [if_pos h3, if_pos h3]
    exact cEq_r (fun j hj => congrArg some (hd (2000 + j) (by omega) (by omega) (by omega)).symm)
  rw [if_neg h3, if_neg h3]
  by_cases h4 : 11 ≤ q ∧ q ≤ 14
  · rw [if_pos h4, if_pos h4]
    refine Or.inl ?_
    rcases (show q = 11 ∨ q = 12 ∨ q = 13 ∨ q = 14 by omega) with rfl | rfl | rfl | rfl
    · rw [hd (11 + 4) (by omega) (by omega) (by omega)]; rfl
    · rw [hd (12 + 4) (by omega) (by omega) (by omega)]; rfl
    · rw [hd (13 + 4) (by omega) (by omega) (by omega)]; rfl
    · exact absurd rfl n14
  rw [if_neg h4, if_neg h4]
  by_cases h5 : 15 ≤ q ∧ q ≤ 18
  · rw [if_pos h5, if_pos h5]
    rcases (show q = 15 ∨ q = 16 ∨ q = 17 ∨ q = 18 by omega) with rfl | rfl | rfl | rfl
    · refine cEq_r (f := fun j => if (j : Int) < I 1 then some (ad (3000 + j)) else none) (g := fun j => if (j : Int) < I 1 then some (ad1 (3000 + j)) else none) (fun j hj => ?_)
      by_cases hc : (j : Int) < I 1
      · rw [if_pos hc, if_pos hc, hd (3000 + j) (by omega) (by omega) (by omega)]
      · rw [if_neg hc, if_neg hc]
    · refine cEq_r (f := fun j => if (j : Int) < I 4 then some (ad (3200 + j)) else none) (g := fun j => if (j : Int) < I 4 then some (ad1 (3200 + j)) else none) (fun j hj => ?_)
      by_cases hc : (j : Int) < I 4
      · rw [if_pos hc, if_pos hc, hd (3200 + j) (by omega) (by omega) (by omega)]
      · rw [if_neg hc, if_neg hc]
    · refine cEq_r (f := fun j => if (j : Int) < I 10 then some (ad (3300 + j)) else none) (g := fun j => if (j : Int) < I 10 then some (ad1 (3300 + j)) else none) (fun j hj => ?_)
      by_cases hc : (j : Int) < I 10
      · rw [if_pos hc, if_pos hc, hd (3300 + j) (by omega) (by omega) (by omega)]
      · rw [if_neg hc, if_neg hc]
    · exact absurd rfl n18
  rw [if_neg h5, if_neg h5]
  by_cases h6 : q = 19 ∨ q = 20
  · rw [if_pos h6, if_pos h6]
    refine Or.inl ?_
    rcases h6 with rfl | rfl
    · unfold c1v; rw [hd (21 + 4 * (19 - 19)) (by omega) (by omega) (by omega), hd (22 + 4 * (19 - 19)) (by omega) (by omega) (by omega), hd (23 + 4 * (19 - 19)) (by omega) (by omega) (by omega), hd (24 + 4 * (19 - 19)) (by omega) (by omega) (by omega), hd (0) (by omega) (by omega) (by omega)]; rfl
    · unfold c1v; rw [hd (21 + 4 * (20 - 19)) (by omega) (by omega) (by omega), hd (22 + 4 * (20 - 19)) (by omega) (by omega) (by omega), hd (23 + 4 * (20 - 19)) (by omega) (by omega) (by omega), hd (24 + 4 * (20 - 19)) (by omega) (by omega) (by omega), hd (0) (by omega) (by omega) (by omega)]; rfl
  rw [if_neg h6, if_neg h6]
  by_cases h7 : 3000 ≤ q ∧ q < 3100
  · rw [if_pos h7, if_pos h7]
    refine Or.inl ?_
    rw [hF 2 (by decide) (by decide) (by decide), hd (q + 100) (by omega) (by omega) (by omega)]
  rw [if_neg h7, if_neg h7]
  by_cases h8 : 3200 ≤ q ∧ q < 3300
  · rw [if_pos h8, if_pos h8]
    refine Or.inl ?_
    rw [hF 5 (by decide) (by decide) (by decide), hF 6 (by decide) (by decide) (by decide), hF 7 (by decide) (by decide) (by decide), hF 8 (by decide) (by decide) (by decide), hF 9 (by decide) (by decide) (by decide)]
  rw [if_neg h8, if_neg h8]
  by_cases h9 : 3300 ≤ q ∧ q < 3400
  · rw [if_pos h9, if_pos h9]
    refine Or.inl ?_
    rw [hF 11 (by decide) (by decide) (by decide), hF 12 (by decide) (by decide) (by decide), hF 13 (by decide) (by decide) (by decide), hF 14 (by decide) (by decide) (by decide)]
  rw [if_neg h9, if_neg h9]
  by_cases h10 : 3400 ≤ q ∧ q < 3500
  · rw [if_pos h10, if_pos h10]
    refine Or.inl ?_
    rw [hFk 19 ((q - 3400 : Nat) : Int) (by omega), hFk 20 ((q - 3400 : Nat) : Int) (by omega), hFk 21 ((q - 3400 : Nat) : Int) (by omega)]
  rw [if_neg h10, if_neg h10]
  by_cases h11 : q = 30
  · rw [if_pos h11, if_pos h11]
    refine cEq_r (fun j hj => ?_)
    show (if F 64 j = -1 then none else some (ad (31 + j))) = if F1 64 j = -1 then none else some (ad1 (31 + j))
    rw [hF 64 (by decide) (by decide) (by decide), hd (31 + j) (by omega) (by omega) (by omega)]
  rw [if_neg h11, if_neg h11]
  by_cases h12 : q = 31 ∨ q = 32
  · rw [if_pos h12, if_pos h12]
    rw [hF 64 (by decide) (by decide) (by decide), hF 65 (by decide) (by decide) (by decide)]
    exact cEq_r (fun j hj => congrArg some (hd (4000 + 1000 * (q - 31) + j) (by omega) (by omega) (by omega)).symm)
  rw [if_neg h12, if_neg h12]
  refine Or.inl ?_
  rw [hF 62 (by decide) (by decide) (by decide), hF 63 (by decide) (by decide) (by decide), hF 64 (by decide) (by decide) (by decide)]
