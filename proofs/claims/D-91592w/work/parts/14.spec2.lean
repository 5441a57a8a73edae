/-! PLAIN WORDS: what is wet, the level, the arm, the rests -/
def cntS (sl lv y hf n : Int) : Int := sm (fun i => if 100 * y ≤ lv + sl * (2 * (i - hf) + 1) then 1 else 0) n
def plcS (sl lv y hf n : Int) : Int := sm (fun i => if 100 * y ≤ lv + sl * (2 * (i - hf) + 1) then 2 * (i - hf) + 1 else 0) n
def rowC (len half : Int → Int) (sl lv k : Int) : Int → Int := fun z => len k * cntS sl lv (2 * z + 1) (half (10 * k + z)) (2 * half (10 * k + z))
def rowU (len half : Int → Int) (sl lv k : Int) : Int → Int := fun z => len k * (100 * plcS sl lv (2 * z + 1) (half (10 * k + z)) (2 * half (10 * k + z)) + sl * (2 * z + 1) * cntS sl lv (2 * z + 1) (half (10 * k + z)) (2 * half (10 * k + z)))
def pushS (ns : Int) (len half : Int → Int) (sl lv : Int) : Int := sm (fun k => sm (rowC len half sl lv k) 10) ns
def upS (ns : Int) (len half : Int → Int) (sl lv : Int) : Int := sm (fun k => sm (rowU len half sl lv k) 10) ns
theorem cntS_s (sl lv y hf : Int) {x : Int} (h0 : 0 ≤ x + hf) : cntS sl lv y hf (x + 1 + hf) = cntS sl lv y hf (x + hf) + (if 100 * y ≤ lv + sl * (2 * x + 1) then 1 else 0) := by
  unfold cntS
  rw [show x + 1 + hf = x + hf + 1 by omega, sm_s _ h0, show x + hf - hf = x by omega]
theorem plcS_s (sl lv y hf : Int) {x : Int} (h0 : 0 ≤ x + hf) : plcS sl lv y hf (x + 1 + hf) = plcS sl lv y hf (x + hf) + (if 100 * y ≤ lv + sl * (2 * x + 1) then 2 * x + 1 else 0) := by
  unfold plcS
  rw [show x + 1 + hf = x + hf + 1 by omega, sm_s _ h0, show x + hf - hf = x by omega]
theorem cntS_bd (sl lv y hf : Int) {n : Int} (hn : 0 ≤ n) : 0 ≤ cntS sl lv y hf n ∧ cntS sl lv y hf n ≤ n := by
  have h := sm_bd (f := fun i => if 100 * y ≤ lv + sl * (2 * (i - hf) + 1) then 1 else 0) (n := n) (lo := 0) (hi := 1) hn (fun k h0 h1 => by split <;> omega)
  unfold cntS
  omega
theorem plcS_bd (sl lv y : Int) {hf n : Int} (hh : 0 ≤ hf ∧ hf ≤ 9) (hn : 0 ≤ n ∧ n ≤ 2 * hf) : -306 ≤ plcS sl lv y hf n ∧ plcS sl lv y hf n ≤ 306 := by
  have h := sm_bd (f := fun i => if 100 * y ≤ lv + sl * (2 * (i - hf) + 1) then 2 * (i - hf) + 1 else 0) (n := n) (lo := -17) (hi := 17) hn.1 (fun k h0 h1 => by split <;> omega)
  unfold plcS
  omega
theorem rowC_bd {len half : Int → Int} {sl lv k z : Int} (hl : 0 ≤ len k ∧ len k ≤ 20) (hh : 0 ≤ half (10 * k + z) ∧ half (10 * k + z) ≤ 9) : 0 ≤ rowC len half sl lv k z ∧ rowC len half sl lv k z ≤ 360 := by
  have h1 := cntS_bd sl lv (2 * z + 1) (half (10 * k + z)) (n := 2 * half (10 * k + z)) (by omega)
  have h2 := mul_bd (A := 20) (B := 18) (a := len k) (b := cntS sl lv (2 * z + 1) (half (10 * k + z)) (2 * half (10 * k + z))) (by omega) (by omega)
  have h3 := Int.mul_nonneg hl.1 h1.1
  unfold rowC
  omega
theorem rowU_bd {len half : Int → Int} {sl lv k z : Int} (hs : -80 ≤ sl ∧ sl ≤ 80) (hz : 0 ≤ z ∧ z < 10) (hl : 0 ≤ len k ∧ len k ≤ 20) (hh : 0 ≤ half (10 * k + z) ∧ half (10 * k + z) ≤ 9) : -1159200 ≤ rowU len half sl lv k z ∧ rowU len half sl lv k z ≤ 1159200 := by
  have h1 := cntS_bd sl lv (2 * z + 1) (half (10 * k + z)) (n := 2 * half (10 * k + z)) (by omega)
  have h2 := plcS_bd sl lv (2 * z + 1) (hf := half (10 * k + z)) (n := 2 * half (10 * k + z)) hh (by omega)
  have h3 := mul_bd (A := 80) (B := 19) (a := sl) (b := 2 * z + 1) (by omega) (by omega)
  have h4 := mul_bd (A := 1520) (B := 18) (a := sl * (2 * z + 1)) (b := cntS sl lv (2 * z + 1) (half (10 * k + z)) (2 * half (10 * k + z))) (by omega) (by omega)
  have h5 := mul_bd (A := 20) (B := 57960) (a := len k) (b := 100 * plcS sl lv (2 * z + 1) (half (10 * k + z)) (2 * half (10 * k + z)) + sl * (2 * z + 1) * cntS sl lv (2 * z + 1) (half (10 * k + z)) (2 * half (10 * k + z))) (by omega) (by omega)
  unfold rowU
  omega
theorem pushS_bd {ns : Int} {len half : Int → Int} (sl lv : Int) (hn : 0 ≤ ns ∧ ns ≤ 6) (hl : Bd len 6 0 20) (hh : Bd half 60 0 9) : 0 ≤ pushS ns len half sl lv ∧ pushS ns len half sl lv ≤ 21600 := by
  have h := sm_bd (f := fun k => sm (rowC len half sl lv k) 10) (n := ns) (lo := 0) (hi := 3600) hn.1 (fun k h0 h1 => by
    have := sm_bd (f := rowC len half sl lv k) (n := 10) (lo := 0) (hi := 360) (by decide) (fun z z0 z1 => rowC_bd (hl k h0 (by omega)) (hh _ (by omega) (by omega)))
    omega)
  unfold pushS
  omega
theorem upS_bd {ns : Int} {len half : Int → Int} {sl : Int} (lv : Int) (hs : -80 ≤ sl ∧ sl ≤ 80) (hn : 0 ≤ ns ∧ ns ≤ 6) (hl : Bd len 6 0 20) (hh : Bd half 60 0 9) : -69552000 ≤ upS ns len half sl lv ∧ upS ns len half sl lv ≤ 69552000 := by
  have h := sm_bd (f := fun k => sm (rowU len half sl lv k) 10) (n := ns) (lo := -11592000) (hi := 11592000) hn.1 (fun k h0 h1 => by
    have := sm_bd (f := rowU len half sl lv k) (n := 10) (lo := -1159200) (hi := 1159200) (by decide) (fun z z0 z1 => rowU_bd hs ⟨z0, z1⟩ (hl k h0 (by omega)) (hh _ (by omega) (by omega)))
    omega)
  unfold upS
  omega
theorem heavyS_bd {nw nt : Int} {lost mass has : Int → Int} (hw : 0 ≤ nw ∧ nw ≤ 12) (ht : 0 ≤ nt ∧ nt ≤ 4) (hm : Bd mass 12 0 500) (hs : Bd has 4 0 300) : 0 ≤ heavyS nw lost mass nt has ∧ heavyS nw lost mass nt has ≤ 7200 := by
  have h1 := sm_bd (f := fun w => if lost w = 0 then mass w else 0) (n := nw) (lo := 0) (hi := 500) hw.1 (fun k h0 h1 => by have := hm k h0 (by omega); split <;> omega)
  have h2 := sm_bd (f := has) (n := nt) (lo := 0) (hi := 300) ht.1 (fun k h0 h1 => hs k h0 (by omega))
  unfold heavyS
  omega
theorem up4 (f : Nat → Int) (a b a' b' : Int) : va_up (va_up (va_up (va_up f 66 a) 67 b) 66 a') 67 b' = va_up (va_up f 66 a') 67 b' := by
  funext j
  by_cases h : j = 67
  · simp [va_up, h]
  · by_cases h2 : j = 66 <;> simp [va_up, h, h2]
theorem up2s (f : Nat → Int) : va_up (va_up f 66 (f 66)) 67 (f 67) = f := by
  rw [up_self]
  exact up_self f 67
theorem ringB (b L p C q t : Int) : b + L * (100 * p + t * C) + L * (100 * q + t) = b + L * (100 * (p + q) + t * (C + 1)) := by
  simp only [Int.mul_add, Int.mul_one]
  omega
theorem ringC (b L p C t : Int) : b + L * (100 * p + t * C) = b + L * (100 * (p + 0) + t * (C + 0)) := by simp
/-- the level, by halves -/
def bis (f : Int → Int) (hv : Int) : Nat → Int → Int → Int
  | 0, a, _ => a
  | n + 1, a, b => if a < b then (if f ((a + b) / 2) < hv then bis f hv n ((a + b) / 2 + 1) b else bis f hv n a ((a + b) / 2)) else a
theorem bis_lt {f : Int → Int} {hv : Int} {n : Nat} {a b : Int} (h : a < b) (h2 : f ((a + b) / 2) < hv) : bis f hv (n + 1) a b = bis f hv n ((a + b) / 2 + 1) b := by
  show (if a < b then _ else _) = _
  rw [if_pos h, if_pos h2]
theorem bis_ge {f : Int → Int} {hv : Int} {n : Nat} {a b : Int} (h : a < b) (h2 : ¬ f ((a + b) / 2) < hv) : bis f hv (n + 1) a b = bis f hv n a ((a + b) / 2) := by
  show (if a < b then _ else _) = _
  rw [if_pos h, if_neg h2]
theorem bis_eq {f : Int → Int} {hv : Int} {n : Nat} {a b : Int} (h : ¬ a < b) : bis f hv n a b = a := by
  cases n with
  | zero => rfl
  | succ n =>
    show (if a < b then _ else _) = _
    rw [if_neg h]
theorem bis_in {f : Int → Int} {hv : Int} : ∀ (n : Nat) (a b : Int), a ≤ b → hv ≤ f b → b - a ≤ n → (a ≤ bis f hv n a b ∧ bis f hv n a b ≤ b) ∧ hv ≤ f (bis f hv n a b)
  | 0, a, b, h, hf, hn => by
    have e : a = b := by omega
    subst e
    exact ⟨⟨Int.le_refl _, Int.le_refl _⟩, hf⟩
  | n + 1, a, b, h, hf, hn => by
    by_cases hab : a < b
    · by_cases hm : f ((a + b) / 2) < hv
      · rw [bis_lt hab hm]
        have := bis_in (f := f) (hv := hv) n ((a + b) / 2 + 1) b (by omega) hf (by omega)
        omega
      · rw [bis_ge hab hm]
        have := bis_in (f := f) (hv := hv) n a ((a + b) / 2) (by omega) (by omega) (by omega)
        omega
    · rw [bis_eq hab]
      have e : a = b := by omega
      subst e
      exact ⟨⟨Int.le_refl _, Int.le_refl _⟩, hf⟩
def levelS (hv : Int) (f : Int → Int) : Int := if hv = 0 ∨ f 4000 < hv then -2147483648 else bis f hv 6000 (-2000) 4000
theorem levelS_in {hv : Int} {f : Int → Int} (h : levelS hv f ≠ -2147483648) : (-2000 ≤ levelS hv f ∧ levelS hv f ≤ 4000) ∧ hv ≤ f (levelS hv f) ∧ hv ≠ 0 := by
  unfold levelS at h ⊢
  by_cases hc : hv = 0 ∨ f 4000 < hv
  · rw [if_pos hc] at h
    exact absurd rfl h
  · rw [if_neg hc]
    have := bis_in (f := f) (hv := hv) 6000 (-2000) 4000 (by decide) (by omega) (by decide)
    omega
theorem levelS_or (hv : Int) (f : Int → Int) : levelS hv f = -2147483648 ∨ (-2000 ≤ levelS hv f ∧ levelS hv f ≤ 4000) := by
  by_cases h : levelS hv f = -2147483648
  · exact Or.inl h
  · exact Or.inr (levelS_in h).1
def tpS (has hol wid sl : Int) : Int := if 0 < has ∧ has < hol then (sl * wid).tdiv 100 else 0
def downS (nw : Int) (lost mass pl hei : Int → Int) (nt : Int) (has hol wid th : Int → Int) (sl : Int) : Int := sm (fun w => if lost w = 0 then mass w * (100 * pl w + sl * hei w) else 0) nw + sm (fun t => has t * (100 * tpS (has t) (hol t) (wid t) sl + sl * th t)) nt
theorem tpS_bd {has hol wid sl : Int} (hs : -80 ≤ sl ∧ sl ≤ 80) (hw : 0 ≤ wid ∧ wid ≤ 9) : -720 ≤ tpS has hol wid sl ∧ tpS has hol wid sl ≤ 720 := by
  have h1 := mul_bd (A := 80) (B := 9) (a := sl) (b := wid) (by omega) (by omega)
  have h2 := tdiv_bd (a := sl * wid) (b := 100) (M := 720) (by decide) (by omega)
  unfold tpS
  split <;> omega
theorem downS_bd {nw nt sl : Int} {lost mass pl hei has hol wid th : Int → Int} (hs : -80 ≤ sl ∧ sl ≤ 80) (hw : 0 ≤ nw ∧ nw ≤ 12) (ht : 0 ≤ nt ∧ nt ≤ 4) (hm : Bd mass 12 0 500) (hp : Bd pl 12 (-19) 19) (hh : Bd hei 12 0 40) (h1 : Bd has 4 0 300) (h2 : Bd wid 4 0 9) (h3 : Bd th 4 0 40) : -120840000 ≤ downS nw lost mass pl hei nt has hol wid th sl ∧ downS nw lost mass pl hei nt has hol wid th sl ≤ 120840000 := by
  have g1 := sm_bd (f := fun w => if lost w = 0 then mass w * (100 * pl w + sl * hei w) else 0) (n := nw) (lo := -2550000) (hi := 2550000) hw.1 (fun k k0 k1 => by
    have b1 := hm k k0 (by omega)
    have b2 := hp k k0 (by omega)
    have b3 := hh k k0 (by omega)
    have b4 := mul_bd (A := 80) (B := 40) (a := sl) (b := hei k) (by omega) (by omega)
    have b5 := mul_bd (A := 500) (B := 5100) (a := mass k) (b := 100 * pl k + sl * hei k) (by omega) (by omega)
    split <;> omega)
  have g2 := sm_bd (f := fun t => has t * (100 * tpS (has t) (hol t) (wid t) sl + sl * th t)) (n := nt) (lo := -22560000) (hi := 22560000) ht.1 (fun k k0 k1 => by
    have b1 := h1 k k0 (by omega)
    have b2 := h2 k k0 (by omega)
    have b3 := h3 k k0 (by omega)
    have b4 := mul_bd (A := 80) (B := 40) (a := sl) (b := th k) (by omega) (by omega)
    have b5 := tpS_bd (has := has k) (hol := hol k) (sl := sl) hs b2
    have b6 := mul_bd (A := 300) (B := 75200) (a := has k) (b := 100 * tpS (has k) (hol k) (wid k) sl + sl * th k) (by omega) (by omega)
    omega)
  unfold downS
  omega
def armS (up hv push down : Int) : Int := up * hv / push - down
theorem div_bd {a b M : Int} (hb : 0 < b) (h : -M ≤ a ∧ a ≤ M) : -M ≤ a / b ∧ a / b ≤ M := by
  have h1 := Int.ediv_mul_le a (Int.ne_of_gt hb)
  have h2 := Int.lt_ediv_add_one_mul_self a hb
  constructor
  · apply Int.le_ediv_of_mul_le hb
    have : M * 1 ≤ M * b := Int.mul_le_mul_of_nonneg_left (by omega) (by omega)
    rw [Int.neg_mul]
    omega
  · rcases Int.le_total 0 a with p | p
    · have := Int.ediv_le_self b p
      omega
    · have : a / b ≤ 0 := by
        apply Int.le_of_lt_add_one
        apply Int.ediv_lt_of_lt_mul hb
        omega
      omega
def lvF (ns : Int) (len half : Int → Int) (hv sl : Int) : Int := levelS hv (pushS ns len half sl)
def arF (ns : Int) (len half : Int → Int) (hv : Int) (down : Int → Int) (sl : Int) : Int := armS (upS ns len half sl (lvF ns len half hv sl)) hv (pushS ns len half sl (lvF ns len half hv sl)) (down sl)
def chgS (lv ar : Int → Int) (i : Int) : Bool := decide (lv (i - 80) ≠ -2147483648 ∧ lv (i + 1 - 80) ≠ -2147483648 ∧ ¬ ((0 < ar (i - 80)) ↔ (0 < ar (i + 1 - 80))))
def rstF (chg : Int → Bool) : Nat → Int → Int → Int
  | 0, _, _ => -1
  | n + 1, i, left => if chg i = true then (if left = 0 then i else rstF chg n (i + 1) (left - 1)) else rstF chg n (i + 1) left
theorem rstF_s {chg : Int → Bool} {i left : Int} (hi : i < 160) : rstF chg (160 - i).toNat i left = if chg i = true then (if left = 0 then i else rstF chg (160 - (i + 1)).toNat (i + 1) (left - 1)) else rstF chg (160 - (i + 1)).toNat (i + 1) left := by
  have e : (160 - i).toNat = (160 - (i + 1)).toNat + 1 := by omega
  rw [e]
  rfl
def restI (lv ar : Int → Int) (k : Int) : Int := if k < 0 then -1 else rstF (chgS lv ar) 160 0 k
def atS (lv push ar : Int → Int) (sl wh : Int) : Int := if (-80 ≤ sl ∧ sl ≤ 80) ∧ (0 ≤ wh ∧ wh ≤ 2) then (if lv sl = -2147483648 then -2147483648 else if wh = 0 then lv sl else if wh = 1 then push sl else ar sl) else -2147483648
def restS (lv ar : Int → Int) (k : Int) : Int := if restI lv ar k = -1 then -2147483648 else restI lv ar k - 80
def staysS (lv ar : Int → Int) (k : Int) : Int := if restI lv ar k = -1 then -1 else if 0 < ar (restI lv ar k - 80) then 0 else 1
theorem rstF_in {chg : Int → Bool} : ∀ (n : Nat) (i left : Int), 0 ≤ i → rstF chg n i left = -1 ∨ (0 ≤ rstF chg n i left ∧ rstF chg n i left < i + n ∧ chg (rstF chg n i left) = true)
  | 0, _, _, _ => Or.inl rfl
  | n + 1, i, left, h => by
    by_cases hc : chg i = true
    · by_cases hl : left = 0
      · have e : rstF chg (n + 1) i left = i := by show (if chg i = true then (if left = 0 then i else _) else _) = _; rw [if_pos hc, if_pos hl]
        rw [e]
        exact Or.inr ⟨h, by omega, hc⟩
      · have e : rstF chg (n + 1) i left = rstF chg n (i + 1) (left - 1) := by show (if chg i = true then (if left = 0 then i else _) else _) = _; rw [if_pos hc, if_neg hl]
        rw [e]
        rcases rstF_in (chg := chg) n (i + 1) (left - 1) (by omega) with q | q
        · exact Or.inl q
        · exact Or.inr ⟨q.1, by omega, q.2.2⟩
    · have e : rstF chg (n + 1) i left = rstF chg n (i + 1) left := by show (if chg i = true then (if left = 0 then i else _) else _) = _; rw [if_neg hc]
      rw [e]
      rcases rstF_in (chg := chg) n (i + 1) left (by omega) with q | q
      · exact Or.inl q
      · exact Or.inr ⟨q.1, by omega, q.2.2⟩
theorem upF_up1 (F : Nat → Int → Int) (g g' : Int → Int) (z v : Int) : upF (va_up (va_up F 68 g) 69 g') 68 z v = va_up (va_up F 68 (updZ g z v)) 69 g' := by
  funext j
  by_cases h : j = 68
  · subst h; simp [upF, va_up]
  · by_cases h2 : j = 69 <;> simp [upF, va_up, h, h2]
theorem sumZ_le {f g : Int → Int} : ∀ n : Nat, (∀ k : Nat, k < n → f k ≤ g k) → sumZ f n ≤ sumZ g n
  | 0, _ => Int.le_refl _
  | n + 1, h => by
    have h1 := sumZ_le n (fun k hk => h k (by omega))
    have h2 := h n (by omega)
    show sumZ f n + f n ≤ sumZ g n + g n
    omega
theorem sm_le {f g : Int → Int} {n : Int} (h : ∀ k, 0 ≤ k → k < n → f k ≤ g k) : sm f n ≤ sm g n := sumZ_le _ (fun k hk => h k (by omega) (by omega))
theorem sumZ_mul (c : Int) (f : Int → Int) : ∀ n : Nat, sumZ (fun k => c * f k) n = c * sumZ f n
  | 0 => by simp [sumZ]
  | n + 1 => by
    show sumZ (fun k => c * f k) n + c * f n = c * (sumZ f n + f n)
    rw [sumZ_mul c f n, Int.mul_add]
theorem sm_mul (c : Int) (f : Int → Int) (n : Int) : sm (fun k => c * f k) n = c * sm f n := sumZ_mul c f _
theorem plc_cnt (sl lv y : Int) {hf n : Int} (hh : 0 ≤ hf ∧ hf ≤ 9) (hn : 0 ≤ n ∧ n ≤ 2 * hf) : -17 * cntS sl lv y hf n ≤ plcS sl lv y hf n ∧ plcS sl lv y hf n ≤ 17 * cntS sl lv y hf n := by
  unfold cntS plcS
  rw [← sm_mul, ← sm_mul]
  exact ⟨sm_le (fun k h0 h1 => by split <;> omega), sm_le (fun k h0 h1 => by split <;> omega)⟩
theorem rowU_C {len half : Int → Int} {sl lv k z : Int} (hs : -80 ≤ sl ∧ sl ≤ 80) (hz : 0 ≤ z ∧ z < 10) (hl : 0 ≤ len k ∧ len k ≤ 20) (hh : 0 ≤ half (10 * k + z) ∧ half (10 * k + z) ≤ 9) : -3220 * rowC len half sl lv k z ≤ rowU len half sl lv k z ∧ rowU len half sl lv k z ≤ 3220 * rowC len half sl lv k z := by
  have h1 := cntS_bd sl lv (2 * z + 1) (half (10 * k + z)) (n := 2 * half (10 * k + z)) (by omega)
  have h2 := plc_cnt sl lv (2 * z + 1) (hf := half (10 * k + z)) (n := 2 * half (10 * k + z)) hh (by omega)
  have h3 := mul_bd (A := 80) (B := 19) (a := sl) (b := 2 * z + 1) (by omega) (by omega)
  unfold rowU rowC
  generalize cntS sl lv (2 * z + 1) (half (10 * k + z)) (2 * half (10 * k + z)) = C at h1 h2 ⊢
  generalize plcS sl lv (2 * z + 1) (half (10 * k + z)) (2 * half (10 * k + z)) = U at h2 ⊢
  generalize sl * (2 * z + 1) = t at h3 ⊢
  generalize len k = L at hl ⊢
  have e1 : t * C ≤ 1520 * C := Int.mul_le_mul_of_nonneg_right h3.2 h1.1
  have e2 : -1520 * C ≤ t * C := Int.mul_le_mul_of_nonneg_right h3.1 h1.1
  have e3 : L * (100 * U + t * C) ≤ L * (3220 * C) := Int.mul_le_mul_of_nonneg_left (by omega) hl.1
  have e4 : L * (-3220 * C) ≤ L * (100 * U + t * C) := Int.mul_le_mul_of_nonneg_left (by omega) hl.1
  have e5 : L * (3220 * C) = 3220 * (L * C) := by rw [← Int.mul_assoc, Int.mul_comm L 3220, Int.mul_assoc]
  have e6 : L * (-3220 * C) = -3220 * (L * C) := by rw [← Int.mul_assoc, Int.mul_comm L (-3220), Int.mul_assoc]
  rw [e5] at e3
  rw [e6] at e4
  exact ⟨e4, e3⟩
theorem up_push {ns : Int} {len half : Int → Int} {sl : Int} (lv : Int) (hs : -80 ≤ sl ∧ sl ≤ 80) (hn : 0 ≤ ns ∧ ns ≤ 6) (hl : Bd len 6 0 20) (hh : Bd half 60 0 9) : -3220 * pushS ns len half sl lv ≤ upS ns len half sl lv ∧ upS ns len half sl lv ≤ 3220 * pushS ns len half sl lv := by
  unfold pushS upS
  rw [← sm_mul, ← sm_mul]
  refine ⟨sm_le (fun k h0 h1 => ?_), sm_le (fun k h0 h1 => ?_)⟩
  · rw [← sm_mul]
    exact sm_le (fun z z0 z1 => (rowU_C hs ⟨z0, z1⟩ (hl k h0 (by omega)) (hh _ (by omega) (by omega))).1)
  · rw [← sm_mul]
    exact sm_le (fun z z0 z1 => (rowU_C hs ⟨z0, z1⟩ (hl k h0 (by omega)) (hh _ (by omega) (by omega))).2)
theorem quo_bd {a b M : Int} (hb : 0 < b) (h1 : -(M * b) ≤ a) (h2 : a ≤ M * b) : -M ≤ a / b ∧ a / b ≤ M := ⟨Int.le_ediv_of_mul_le hb (by rw [Int.neg_mul]; exact h1), Int.ediv_le_of_le_mul hb h2⟩
theorem armS_bd {up hv push down : Int} (hp : 0 < push) (hh : 0 ≤ hv ∧ hv ≤ 7200) (hu : -3220 * push ≤ up ∧ up ≤ 3220 * push) (hd : -120840000 ≤ down ∧ down ≤ 120840000) : -144024000 ≤ armS up hv push down ∧ armS up hv push down ≤ 144024000 := by
  have e1 : up * hv ≤ 3220 * push * hv := Int.mul_le_mul_of_nonneg_right hu.2 hh.1
  have e2 : -3220 * push * hv ≤ up * hv := Int.mul_le_mul_of_nonneg_right hu.1 hh.1
  have e3 : 3220 * push * hv = 3220 * hv * push := by rw [Int.mul_assoc, Int.mul_comm push hv, ← Int.mul_assoc]
  have e4 : -3220 * push * hv = -(3220 * hv * push) := by rw [← e3, ← Int.neg_mul, ← Int.neg_mul]
  have := quo_bd (a := up * hv) (b := push) (M := 3220 * hv) hp (by omega) (by omega)
  unfold armS
  omega
theorem arF_bd {ns hv sl : Int} {len half down : Int → Int} (hs : -80 ≤ sl ∧ sl ≤ 80) (hn : 0 ≤ ns ∧ ns ≤ 6) (hl : Bd len 6 0 20) (hh : Bd half 60 0 9) (hv1 : 0 ≤ hv ∧ hv ≤ 7200) (hd : -120840000 ≤ down sl ∧ down sl ≤ 120840000) (hlv : lvF ns len half hv sl ≠ -2147483648) : -144024000 ≤ arF ns len half hv down sl ∧ arF ns len half hv down sl ≤ 144024000 := by
  have h1 := levelS_in (hv := hv) (f := pushS ns len half sl) hlv
  exact armS_bd (by have := h1.2.1; have := h1.2.2; unfold lvF; omega) hv1 (up_push _ hs hn hl hh) hd
