/-! THE COMPONENT: rules, worlds -/
set_option maxRecDepth 100000

theorem GW.re {D : va_G} {A V V1 : Nat → Prop} {ad ad1 : Nat → Nat} {C C1 : Nat → va_E} {H : Heap} (sg : Nat → Nat) (h : GW D A V ad C H) (hv : ∀ r, V1 r → V (sg r)) (ha : ∀ r, V1 r → ad1 r = ad (sg r)) (hc : ∀ r, V1 r → cEq (C (sg r)) (C1 r)) (hi : ∀ r q, V1 r → V1 q → sg q = sg r → q = r) : GW D A V1 ad1 C1 H := fun r hr => by
  obtain ⟨h1, h2, h3⟩ := h (sg r) (hv r hr)
  rw [ha r hr]
  exact ⟨(hc r hr).at h1, h2, fun q hq e => hi r q hr hq (h3 (sg q) (hv q hq) (by rw [← ha q hq]; exact e))⟩
def disB (bg cs : Int → Int) : Prop := bg 0 ≠ -1 → bg 1 ≠ -1 → cs 0 ≤ bg 1 ∨ cs 1 ≤ bg 0
theorem rwS_dis (x : Int → Int) (n : Int) : ∀ (k : Nat) (p : Int) (out : List (Int × Int)) (cl : Int) (bg cs : Int → Int), disB bg cs → (∀ j : Int, (j = 0 ∨ j = 1) → bg j ≠ -1 → cs j ≤ (out.length : Int)) → disB (rwS x n k p out cl bg cs).2.2.2.2.1 (rwS x n k p out cl bg cs).2.2.2.2.2
  | 0, _, _, _, _, _, h, _ => h
  | k + 1, p, out, cl, bg, cs, h, hc => by
    by_cases c0 : tK x n p = 0
    · rw [rwS_0 k out cl bg cs c0]; exact h
    by_cases c1 : tK x n p = 2 ∧ (0 ≤ tV x n p ∧ tV x n p ≤ 1) ∧ bg (tV x n p) = -1
    · obtain ⟨a, ha⟩ : ∃ a, ps x n 3000 6 0 (tT x n p) = a := ⟨_, rfl⟩
      by_cases c2 : a.1 = true ∧ tK x n a.2.1 = 3 ∧ tV x n a.2.1 = 59
      · rw [rwS_go k out cl bg cs ha c1 c2]
        have h0 := hc 0 (Or.inl rfl)
        have h1 := hc 1 (Or.inr rfl)
        have hl : ((out ++ a.2.2).length : Int) = (out.length : Int) + (a.2.2.length : Int) := by rw [List.length_append]; omega
        obtain ⟨t, ht⟩ : ∃ t, tV x n p = t := ⟨_, rfl⟩
        rw [ht] at c1 ⊢
        rcases (show t = 0 ∨ t = 1 by omega) with rfl | rfl
        · refine rwS_dis x n k _ _ _ _ _ ?_ ?_
          · intro q0 q1
            rw [updZ_n (by decide)] at q1
            rw [updZ_s, updZ_s, updZ_n (by decide), updZ_n (by decide)]
            exact Or.inr (h1 q1)
          · rintro j (rfl | rfl) hj
            · rw [updZ_s]; exact Int.le_refl _
            · rw [updZ_n (by decide)] at hj ⊢
              have := h1 hj
              omega
        · refine rwS_dis x n k _ _ _ _ _ ?_ ?_
          · intro q0 q1
            rw [updZ_n (by decide)] at q0
            rw [updZ_s, updZ_s, updZ_n (by decide), updZ_n (by decide)]
            exact Or.inl (h0 q0)
          · rintro j (rfl | rfl) hj
            · rw [updZ_n (by decide)] at hj ⊢
              have := h0 hj
              omega
            · rw [updZ_s]; exact Int.le_refl _
      · rw [rwS_bad k out cl bg cs ha c1 c2]; exact h
    · rw [rwS_no k out cl bg cs c0 c1]; exact h
theorem cCr {E : Nat → ClassId} {ad ad1 L : Nat → Nat} {I I1 : Nat → Int} {F F1 : Nat → Int → Int} {S S1 : Nat → Nat → Int} {Y : Nat → Int → Int} (hb : I 1 ≤ 100 ∧ I 4 ≤ 100 ∧ I 10 ≤ 100 ∧ I 18 ≤ 100) (hI : ∀ j, j ≠ 48 → I1 j = I j) (hF : ∀ j, j ≠ 53 → j ≠ 57 → j ≠ 58 → j ≠ 60 → j ≠ 61 → j ≠ 62 → j ≠ 63 → j ≠ 64 → j ≠ 65 → F1 j = F j) (hS : ∀ r, r ≠ 0 → S1 r = S r) (hd : ∀ q, q < 29 ∨ (1000 ≤ q ∧ q < 3500) → ad1 q = ad q) {q : Nat} (hq : q ≠ 0) (h30 : q < 29 ∨ (1000 ≤ q ∧ q < 1600) ∨ (2000 ≤ q ∧ q < 2013) ∨ (3000 ≤ q ∧ q < 3500)) : cEq (cC E ad I F S Y L q) (cC E ad1 I1 F1 S1 Y L q) := by
  unfold cC
  rw [if_neg hq, if_neg hq]
  by_cases h1 : (1 ≤ q ∧ q ≤ 8) ∨ (21 ≤ q ∧ q ≤ 28) ∨ (1000 ≤ q ∧ q < 1600) ∨ (2000 ≤ q ∧ q < 2013) ∨ (3100 ≤ q ∧ q < 3200)
  · rw [if_pos h1, if_pos h1]
    refine Or.inl ?_
    unfold aY
    rw [hF 47 (by decide) (by decide) (by decide) (by decide) (by decide) (by decide) (by decide) (by decide) (by decide), hF 16 (by decide) (by decide) (by decide) (by decide) (by decide) (by decide) (by decide) (by decide) (by decide), hF 17 (by decide) (by decide) (by decide) (by decide) (by decide) (by decide) (by decide) (by decide) (by decide), hF 42 (by decide) (by decide) (by decide) (by decide) (by decide) (by decide) (by decide) (by decide) (by decide), hF 43 (by decide) (by decide) (by decide) (by decide) (by decide) (by decide) (by decide) (by decide) (by decide), hF 46 (by decide) (by decide) (by decide) (by decide) (by decide) (by decide) (by decide) (by decide) (by decide), hF 3 (by decide) (by decide) (by decide) (by decide) (by decide) (by decide) (by decide) (by decide) (by decide)]
  rw [if_neg h1, if_neg h1]
  by_cases h2 : q = 9
  · rw [if_pos h2, if_pos h2]
    exact cEq_r (fun j hj => congrArg some (hd (1000 + j) (by omega)).symm)
  rw [if_neg h2, if_neg h2]
  by_cases h3 : q = 10
  · rw [if_pos h3, if_pos h3]
    exact cEq_r (fun j hj => congrArg some (hd (2000 + j) (by omega)).symm)
  rw [if_neg h3, if_neg h3]
  by_cases h4 : 11 ≤ q ∧ q ≤ 14
  · rw [if_pos h4, if_pos h4]
    refine Or.inl ?_
    rcases (show q = 11 ∨ q = 12 ∨ q = 13 ∨ q = 14 by omega) with rfl | rfl | rfl | rfl
    · rw [hd (11 + 4) (by omega), hS 11 (by decide)]; show _ = Sum.inr (10, [_, _, Value.int (iI (I1 1))]); rw [hI 1 (by decide)]; rfl
    · rw [hd (12 + 4) (by omega), hS 12 (by decide)]; show _ = Sum.inr (10, [_, _, Value.int (iI (I1 4))]); rw [hI 4 (by decide)]; rfl
    · rw [hd (13 + 4) (by omega), hS 13 (by decide)]; show _ = Sum.inr (10, [_, _, Value.int (iI (I1 10))]); rw [hI 10 (by decide)]; rfl
    · rw [hd (14 + 4) (by omega), hS 14 (by decide)]; show _ = Sum.inr (10, [_, _, Value.int (iI (I1 18))]); rw [hI 18 (by decide)]; rfl
  rw [if_neg h4, if_neg h4]
  by_cases h5 : 15 ≤ q ∧ q ≤ 18
  · rw [if_pos h5, if_pos h5]
    rcases (show q = 15 ∨ q = 16 ∨ q = 17 ∨ q = 18 by omega) with rfl | rfl | rfl | rfl
    · refine cEq_r (f := fun j => if (j : Int) < I 1 then some (ad (3000 + j)) else none) (g := fun j => if (j : Int) < I1 1 then some (ad1 (3000 + j)) else none) (fun j hj => ?_)
      rw [hI 1 (by decide)]
      by_cases hc : (j : Int) < I 1
      · rw [if_pos hc, if_pos hc, hd (3000 + j) (by omega)]
      · rw [if_neg hc, if_neg hc]
    · refine cEq_r (f := fun j => if (j : Int) < I 4 then some (ad (3200 + j)) else none) (g := fun j => if (j : Int) < I1 4 then some (ad1 (3200 + j)) else none) (fun j hj => ?_)
      rw [hI 4 (by decide)]
      by_cases hc : (j : Int) < I 4
      · rw [if_pos hc, if_pos hc, hd (3200 + j) (by omega)]
      · rw [if_neg hc, if_neg hc]
    · refine cEq_r (f := fun j => if (j : Int) < I 10 then some (ad (3300 + j)) else none) (g := fun j => if (j : Int) < I1 10 then some (ad1 (3300 + j)) else none) (fun j hj => ?_)
      rw [hI 10 (by decide)]
      by_cases hc : (j : Int) < I 10
      · rw [if_pos hc, if_pos hc, hd (3300 + j) (by omega)]
      · rw [if_neg hc, if_neg hc]
    · refine cEq_r (f := fun j => if (j : Int) < I 18 then some (ad (3400 + j)) else none) (g := fun j => if (j : Int) < I1 18 then some (ad1 (3400 + j)) else none) (fun j hj => ?_)
      rw [hI 18 (by decide)]
      by_cases hc : (j : Int) < I 18
      · rw [if_pos hc, if_pos hc, hd (3400 + j) (by omega)]
      · rw [if_neg hc, if_neg hc]
  rw [if_neg h5, if_neg h5]
  by_cases h6 : q = 19 ∨ q = 20
  · rw [if_pos h6, if_pos h6]
    refine Or.inl ?_
    rcases h6 with rfl | rfl
    · unfold c1v; rw [hS 19 (by decide), hd (21 + 4 * (19 - 19)) (by omega), hd (22 + 4 * (19 - 19)) (by omega), hd (23 + 4 * (19 - 19)) (by omega), hd (24 + 4 * (19 - 19)) (by omega), hd (0) (by omega)]
    · unfold c1v; rw [hS 20 (by decide), hd (21 + 4 * (20 - 19)) (by omega), hd (22 + 4 * (20 - 19)) (by omega), hd (23 + 4 * (20 - 19)) (by omega), hd (24 + 4 * (20 - 19)) (by omega), hd (0) (by omega)]
  rw [if_neg h6, if_neg h6]
  by_cases h7 : 3000 ≤ q ∧ q < 3100
  · rw [if_pos h7, if_pos h7]
    refine Or.inl ?_
    rw [hF 2 (by decide) (by decide) (by decide) (by decide) (by decide) (by decide) (by decide) (by decide) (by decide), hd (q + 100) (by omega)]
  rw [if_neg h7, if_neg h7]
  by_cases h8 : 3200 ≤ q ∧ q < 3300
  · rw [if_pos h8, if_pos h8]
    refine Or.inl ?_
    rw [hF 5 (by decide) (by decide) (by decide) (by decide) (by decide) (by decide) (by decide) (by decide) (by decide), hF 6 (by decide) (by decide) (by decide) (by decide) (by decide) (by decide) (by decide) (by decide) (by decide), hF 7 (by decide) (by decide) (by decide) (by decide) (by decide) (by decide) (by decide) (by decide) (by decide), hF 8 (by decide) (by decide) (by decide) (by decide) (by decide) (by decide) (by decide) (by decide) (by decide), hF 9 (by decide) (by decide) (by decide) (by decide) (by decide) (by decide) (by decide) (by decide) (by decide)]
  rw [if_neg h8, if_neg h8]
  by_cases h9 : 3300 ≤ q ∧ q < 3400
  · rw [if_pos h9, if_pos h9]
    refine Or.inl ?_
    rw [hF 11 (by decide) (by decide) (by decide) (by decide) (by decide) (by decide) (by decide) (by decide) (by decide), hF 12 (by decide) (by decide) (by decide) (by decide) (by decide) (by decide) (by decide) (by decide) (by decide), hF 13 (by decide) (by decide) (by decide) (by decide) (by decide) (by decide) (by decide) (by decide) (by decide), hF 14 (by decide) (by decide) (by decide) (by decide) (by decide) (by decide) (by decide) (by decide) (by decide)]
  rw [if_neg h9, if_neg h9]
  by_cases h10 : 3400 ≤ q ∧ q < 3500
  · rw [if_pos h10, if_pos h10]
    refine Or.inl ?_
    rw [hF 19 (by decide) (by decide) (by decide) (by decide) (by decide) (by decide) (by decide) (by decide) (by decide), hF 20 (by decide) (by decide) (by decide) (by decide) (by decide) (by decide) (by decide) (by decide) (by decide), hF 21 (by decide) (by decide) (by decide) (by decide) (by decide) (by decide) (by decide) (by decide) (by decide)]
  rw [if_neg h10, if_neg h10]
  exfalso
  omega
