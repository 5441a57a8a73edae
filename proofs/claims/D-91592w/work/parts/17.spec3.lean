/-! PLAIN WORDS: a clause worked out, a tick of the ship -/
def ofS (d a b : Int) : Int := if d = 2 then clampZ (a + b) 1000000 else if d = 3 then clampZ (a - b) 1000000 else if d = 4 then clampZ (a * b) 1000000 else if d = 5 then (if b = 0 then 0 else a.tdiv b) else if d = 6 then (if a < b then 1 else 0) else if d = 7 then (if b < a then 1 else 0) else if d = 8 then (if a = b then 1 else 0) else if d = 9 then (if a + b = 2 then 1 else 0) else (if 0 < a + b then 1 else 0)
/-- one mark on the heap of numbers: its new content and height -/
def stpH (d w : Int) (nm : Int → Int) (hp : Int → Int) (top : Int) : Int → Int := if d = 0 then updZ hp top w else if d = 1 then updZ hp top (nm w) else if d = 11 then updZ hp (top - 1) (1 - hp (top - 1)) else updZ hp (top - 2) (ofS d (hp (top - 2)) (hp (top - 1)))
def stpT (d top : Int) : Int := if d = 0 ∨ d = 1 then top + 1 else if d = 11 then top else top - 1
def runH (dd ww nm : Int → Int) : Nat → Int → (Int → Int) → Int → Int → Int
  | 0, _, hp, _ => hp
  | n + 1, k, hp, top => runH dd ww nm n (k + 1) (stpH (dd k) (ww k) nm hp top) (stpT (dd k) top)
/-- marks that can be worked out: heights and kinds (tp: 0 a number, 1 yes or no) -/
def okM (dd ww : Int → Int) : Nat → Int → (Int → Int) → Int → Prop
  | 0, _, tp, top => top = 1 ∧ tp 0 = 1
  | n + 1, k, tp, top =>
    (dd k = 0 ∧ (0 ≤ top ∧ top < 40) ∧ (0 ≤ ww k ∧ ww k ≤ 9999) ∧ okM dd ww n (k + 1) (updZ tp top 0) (top + 1)) ∨
    (dd k = 1 ∧ (0 ≤ top ∧ top < 40) ∧ (0 ≤ ww k ∧ ww k ≤ 6) ∧ okM dd ww n (k + 1) (updZ tp top 0) (top + 1)) ∨
    ((2 ≤ dd k ∧ dd k ≤ 5) ∧ (2 ≤ top ∧ top ≤ 40) ∧ (tp (top - 2) = 0 ∧ tp (top - 1) = 0) ∧ okM dd ww n (k + 1) (updZ tp (top - 2) 0) (top - 1)) ∨
    ((6 ≤ dd k ∧ dd k ≤ 8) ∧ (2 ≤ top ∧ top ≤ 40) ∧ (tp (top - 2) = 0 ∧ tp (top - 1) = 0) ∧ okM dd ww n (k + 1) (updZ tp (top - 2) 1) (top - 1)) ∨
    ((9 ≤ dd k ∧ dd k ≤ 10) ∧ (2 ≤ top ∧ top ≤ 40) ∧ (tp (top - 2) = 1 ∧ tp (top - 1) = 1) ∧ okM dd ww n (k + 1) (updZ tp (top - 2) 1) (top - 1)) ∨
    (dd k = 11 ∧ (1 ≤ top ∧ top ≤ 40) ∧ tp (top - 1) = 1 ∧ okM dd ww n (k + 1) tp top)
/-- what lies on the heap below its height: within bounds; 0 or 1 where it is a yes or no -/
def okH (hp tp : Int → Int) (top : Int) : Prop := ∀ i, 0 ≤ i → i < top → (-1000000 ≤ hp i ∧ hp i ≤ 1000000) ∧ (tp i = 1 → hp i = 0 ∨ hp i = 1)
theorem clampZ_in (v : Int) : -1000000 ≤ clampZ v 1000000 ∧ clampZ v 1000000 ≤ 1000000 := clampZ_bd (by decide)
theorem quo_in {a b : Int} (ha : -1000000 ≤ a ∧ a ≤ 1000000) : -1000000 ≤ a.tdiv b ∧ a.tdiv b ≤ 1000000 := by
  rcases Int.lt_trichotomy b 0 with h | h | h
  · have := tdiv_bd (a := a) (b := -b) (M := 1000000) (by omega) ha
    rw [Int.tdiv_neg] at this
    omega
  · subst h
    rw [Int.tdiv_zero]
    decide
  · exact tdiv_bd h ha
theorem ofS_bd {d a b : Int} (ha : -1000000 ≤ a ∧ a ≤ 1000000) (hb : -1000000 ≤ b ∧ b ≤ 1000000) : -1000000 ≤ ofS d a b ∧ ofS d a b ≤ 1000000 := by
  have h1 := clampZ_in (a + b)
  have h2 := clampZ_in (a - b)
  have h3 := clampZ_in (a * b)
  have h4 := quo_in (a := a) (b := b) ha
  unfold ofS
  repeat' split
  all_goals omega
theorem ofS_01 {d : Int} (a b : Int) (hd : 6 ≤ d ∧ d ≤ 10) : ofS d a b = 0 ∨ ofS d a b = 1 := by
  unfold ofS
  rw [if_neg (by omega), if_neg (by omega), if_neg (by omega), if_neg (by omega)]
  repeat' split
  all_goals omega
theorem okH.upd {hp tp : Int → Int} {top z v w : Int} (h : okH hp tp top) {top' : Int} (ht : top' ≤ top ∨ (z = top ∧ top' ≤ top + 1)) (hv : -1000000 ≤ v ∧ v ≤ 1000000) (hw : w = 1 → v = 0 ∨ v = 1) : okH (updZ hp z v) (updZ tp z w) top' := by
  intro i h0 h1
  by_cases hi : i = z
  · subst hi
    rw [updZ_s, updZ_s]
    exact ⟨hv, hw⟩
  · rw [updZ_n hi, updZ_n hi]
    exact h i h0 (by omega)
/-- a mark keeps what lies on the heap in order -/
theorem okM_s {dd ww nm : Int → Int} {n : Nat} {k : Int} {hp tp : Int → Int} {top : Int} (hm : okM dd ww (n + 1) k tp top) (hh : okH hp tp top) (hn : ∀ i, 0 ≤ i → i ≤ 6 → -1000000 ≤ nm i ∧ nm i ≤ 1000000) : ∃ tp', okM dd ww n (k + 1) tp' (stpT (dd k) top) ∧ okH (stpH (dd k) (ww k) nm hp top) tp' (stpT (dd k) top) := by
  unfold okM at hm
  rcases hm with ⟨hd, ht, hw, hm⟩ | ⟨hd, ht, hw, hm⟩ | ⟨hd, ht, hw, hm⟩ | ⟨hd, ht, hw, hm⟩ | ⟨hd, ht, hw, hm⟩ | ⟨hd, ht, hw, hm⟩
  · refine ⟨updZ tp top 0, ?_, ?_⟩
    · unfold stpT
      rw [if_pos (Or.inl hd)]
      exact hm
    · unfold stpH stpT
      rw [if_pos hd, if_pos (Or.inl hd)]
      exact hh.upd (w := 0) (Or.inr ⟨rfl, Int.le_refl _⟩) (by omega) (by omega)
  · refine ⟨updZ tp top 0, ?_, ?_⟩
    · unfold stpT
      rw [if_pos (Or.inr hd)]
      exact hm
    · unfold stpH stpT
      rw [if_neg (show ¬ dd k = 0 by omega), if_pos hd, if_pos (Or.inr hd)]
      exact hh.upd (w := 0) (Or.inr ⟨rfl, Int.le_refl _⟩) (hn _ hw.1 hw.2) (by omega)
  · have b1 := (hh (top - 2) (by omega) (by omega)).1
    have b2 := (hh (top - 1) (by omega) (by omega)).1
    refine ⟨updZ tp (top - 2) 0, ?_, ?_⟩
    · unfold stpT
      rw [if_neg (by omega), if_neg (by omega)]
      exact hm
    · unfold stpH stpT
      rw [if_neg (by omega), if_neg (by omega), if_neg (by omega), if_neg (by omega), if_neg (by omega)]
      exact hh.upd (Or.inl (by omega)) (ofS_bd b1 b2) (by omega)
  · have b1 := (hh (top - 2) (by omega) (by omega)).1
    have b2 := (hh (top - 1) (by omega) (by omega)).1
    refine ⟨updZ tp (top - 2) 1, ?_, ?_⟩
    · unfold stpT
      rw [if_neg (by omega), if_neg (by omega)]
      exact hm
    · unfold stpH stpT
      rw [if_neg (by omega), if_neg (by omega), if_neg (by omega), if_neg (by omega), if_neg (by omega)]
      exact hh.upd (Or.inl (by omega)) (ofS_bd b1 b2) (fun _ => ofS_01 _ _ (by omega))
  · have b1 := (hh (top - 2) (by omega) (by omega)).1
    have b2 := (hh (top - 1) (by omega) (by omega)).1
    refine ⟨updZ tp (top - 2) 1, ?_, ?_⟩
    · unfold stpT
      rw [if_neg (by omega), if_neg (by omega)]
      exact hm
    · unfold stpH stpT
      rw [if_neg (by omega), if_neg (by omega), if_neg (by omega), if_neg (by omega), if_neg (by omega)]
      exact hh.upd (Or.inl (by omega)) (ofS_bd b1 b2) (fun _ => ofS_01 _ _ (by omega))
  · have b2 := (hh (top - 1) (by omega) (by omega)).2 hw
    have e1 : updZ tp (top - 1) 1 = tp := by
      funext j
      by_cases hj : j = top - 1
      · subst hj
        rw [updZ_s, hw]
      · rw [updZ_n hj]
    refine ⟨updZ tp (top - 1) 1, ?_, ?_⟩
    · unfold stpT
      rw [if_neg (by omega), if_pos hd, e1]
      exact hm
    · unfold stpH stpT
      rw [if_neg (by omega), if_neg (by omega), if_pos hd, if_neg (by omega), if_pos hd]
      exact hh.upd (Or.inl (by omega)) (by omega) (fun _ => by omega)
/-- heaps that agree below the height agree after a mark -/
def eqH (f g : Int → Int) (top : Int) : Prop := ∀ i, 0 ≤ i → i < top → f i = g i
theorem eqH.upd {f g : Int → Int} {top z v v' top' : Int} (h : eqH f g top) (ht : top' ≤ top ∨ (z = top ∧ top' ≤ top + 1)) (hv : v = v') : eqH (updZ f z v) (updZ g z v') top' := by
  intro i h0 h1
  by_cases hi : i = z
  · subst hi
    rw [updZ_s, updZ_s, hv]
  · rw [updZ_n hi, updZ_n hi]
    exact h i h0 (by omega)
theorem eqH_s {d w top : Int} {nm f g : Int → Int} (h : eqH f g top) (ht : 0 ≤ top) (hd : (d = 0 ∨ d = 1) ∨ (1 ≤ top ∧ d = 11) ∨ 2 ≤ top) : eqH (stpH d w nm f top) (stpH d w nm g top) (stpT d top) := by
  unfold stpH stpT
  by_cases h0 : d = 0
  · rw [if_pos h0, if_pos h0, if_pos (Or.inl h0)]
    exact h.upd (Or.inr ⟨rfl, Int.le_refl _⟩) rfl
  · rw [if_neg h0, if_neg h0]
    by_cases h1 : d = 1
    · rw [if_pos h1, if_pos h1, if_pos (Or.inr h1)]
      exact h.upd (Or.inr ⟨rfl, Int.le_refl _⟩) rfl
    · rw [if_neg h1, if_neg h1, if_neg (show ¬ (d = 0 ∨ d = 1) by omega)]
      by_cases h2 : d = 11
      · rw [if_pos h2, if_pos h2, if_pos h2]
        exact h.upd (Or.inl (Int.le_refl _)) (by rw [h (top - 1) (by omega) (by omega)])
      · rw [if_neg h2, if_neg h2, if_neg h2]
        exact h.upd (Or.inl (by omega)) (by rw [h (top - 1) (by omega) (by omega), h (top - 2) (by omega) (by omega)])
/-- names: slope speed tick sick sea wet moved -/
def nmS (I : Nat → Int) (F : Nat → Int → Int) (sl sp t si : Int) (wet pl : Int → Int) : Int → Int := fun i => if i = 0 then sl else if i = 1 then sp else if i = 2 then t else if i = 3 then si else if i = 4 then seaS (I 18) (F 19) (F 20) (F 21) t else if i = 5 then sm (fun m => if wet m = 0 then 0 else 1) (I 15) else sm (fun w => if F 9 w = 0 ∧ pl w ≠ F 6 w then 1 else 0) (I 4)
/-- does clause c hold: by the marks dd, ww from bg c up to en c; none: yes -/
def soS (F : Nat → Int → Int) (c : Int) (nm : Int → Int) : Prop := F 64 c = -1 ∨ runH (F 62) (F 63) nm (F 65 c - F 64 c).toNat (F 64 c) (fun _ => 0) 0 0 ≠ 0
def soZ (F : Nat → Int → Int) (c : Int) (nm : Int → Int) : Int := if F 64 c = -1 then 1 else if runH (F 62) (F 63) nm (F 65 c - F 64 c).toNat (F 64 c) (fun _ => 0) 0 0 = 0 then 0 else 1
def gRule (F : Nat → Int → Int) : Prop := ∀ c, 0 ≤ c → c ≤ 1 → F 64 c = -1 ∨ ((0 ≤ F 64 c ∧ F 64 c ≤ F 65 c ∧ F 65 c ≤ 300) ∧ okM (F 62) (F 63) (F 65 c - F 64 c).toNat (F 64 c) (fun _ => 0) 0)
theorem seaS_bd {nw : Int} {hei per pha : Int → Int} (t : Int) (hn : 0 ≤ nw ∧ nw ≤ 8) (hh : Bd hei 8 0 60) : -480000 ≤ seaS nw hei per pha t ∧ seaS nw hei per pha t ≤ 480000 := by
  have h := sm_bd (f := fun w => (hei w * sineS (per w) (pha w) t).tdiv 1000) (n := nw) (lo := -60000) (hi := 60000) hn.1 (fun k h0 h1 => by
    have b := hh k h0 (by omega)
    have := mul_bd (A := 60) (B := 1000) (a := hei k) (b := sineS (per k) (pha k) t) (by omega) (sin16_bd _)
    exact tdiv_bd (by decide) (by omega))
  unfold seaS
  omega
theorem nmS_bd {I : Nat → Int} {F : Nat → Int → Int} {sl sp t si : Int} {wet pl : Int → Int} (h0 : -80 ≤ sl ∧ sl ≤ 80) (h1 : -30 ≤ sp ∧ sp ≤ 30) (h2 : 0 ≤ t ∧ t ≤ 1000) (h3 : 0 ≤ si ∧ si ≤ 100000) (hs : gSea I F) (hm : 0 ≤ I 15 ∧ I 15 ≤ 6) (hw : 0 ≤ I 4 ∧ I 4 ≤ 12) : ∀ i, 0 ≤ i → i ≤ 6 → -1000000 ≤ nmS I F sl sp t si wet pl i ∧ nmS I F sl sp t si wet pl i ≤ 1000000 := by
  intro i i0 i1
  have b1 := seaS_bd (per := F 20) (pha := F 21) t hs.1 hs.2.2.1
  have b2 := sm_bd (f := fun m => if wet m = 0 then 0 else 1) (n := I 15) (lo := 0) (hi := 1) hm.1 (fun k _ _ => by split <;> decide)
  have b3 := sm_bd (f := fun w => if F 9 w = 0 ∧ pl w ≠ F 6 w then 1 else 0) (n := I 4) (lo := 0) (hi := 1) hw.1 (fun k _ _ => by split <;> decide)
  unfold nmS
  repeat' split
  all_goals omega
/-- where loose weights slide -/
def slidS (lost loose : Int → Int) (sl : Int) (pl : Int → Int) : Int → Int := fun w => if lost w ≠ 0 ∨ loose w = -1 then pl w else if loose w < sl then (if pl w < 19 then pl w + 1 else pl w) else if sl < -loose w then (if -19 < pl w then pl w - 1 else pl w) else pl w
theorem fedT_bd {f b : Int → Int} {s k n lo hi : Int} (hf : Bd f n lo hi) (hb : ∀ i, 0 ≤ i → i < k → lo ≤ b i ∧ b i ≤ hi) : Bd (fedT f s b k) n lo hi := by
  intro z h0 h1
  unfold fedT
  split
  · exact hb _ (by omega) (by omega)
  · exact hf z h0 h1
theorem slidS_bd {lost loose pl : Int → Int} {sl w : Int} (h : -19 ≤ pl w ∧ pl w ≤ 19) : -19 ≤ slidS lost loose sl pl w ∧ slidS lost loose sl pl w ≤ 19 := by
  unfold slidS
  repeat' split
  all_goals omega
def absI (v : Int) : Int := if v < 0 then -v else v
/-! a ship: J 0 slope, 1 speed, 2 sick, 3 worked, 4 over, 5 force; 6 whole; G 0 places, 1 wet, 2 wetted, 3 parts -/
def tPl (I : Nat → Int) (F : Nat → Int → Int) (J : Nat → Int) (G : Nat → Int → Int) : Int → Int := fedT (G 0) 0 (slidS (F 9) (F 8) (J 0) (G 0)) (I 4)
def hvS (I : Nat → Int) (F : Nat → Int → Int) : Int := heavyS (I 4) (F 9) (F 5) (I 10) (F 14)
def tLv (I : Nat → Int) (F : Nat → Int → Int) (sl : Int) : Int := lvF (I 1) (F 2) (F 3) (heavyS (I 4) (F 9) (F 5) (I 10) (F 14)) sl
def tDn (I : Nat → Int) (F : Nat → Int → Int) (pl : Int → Int) (sl : Int) : Int := downS (I 4) (F 9) (F 5) pl (F 7) (I 10) (F 14) (F 13) (F 11) (F 12) sl
def tAr (I : Nat → Int) (F : Nat → Int → Int) (pl : Int → Int) (sl : Int) : Int := armS (upS (I 1) (F 2) (F 3) sl (tLv I F sl)) (heavyS (I 4) (F 9) (F 5) (I 10) (F 14)) (pushS (I 1) (F 2) (F 3) sl (tLv I F sl)) (tDn I F pl sl)
def tP3 (I : Nat → Int) (F : Nat → Int → Int) (t fi : Int) (J : Nat → Int) (G : Nat → Int → Int) : Int := if soZ F 1 (nmS I F (J 0) (J 1) t (J 2) (G 1) (tPl I F J G)) = 0 then 0 else (-(J 1 * fi)).tdiv 4
def tPa (I : Nat → Int) (F : Nat → Int → Int) (t fi : Int) (J : Nat → Int) (G : Nat → Int → Int) : Int → Int := fun i => if i = 0 then (-(tAr I F (tPl I F J G) (J 0))).tdiv (I 22) else if i = 1 then seaS (I 18) (F 19) (F 20) (F 21) t else if i = 2 then (-(J 1 * I 23)).tdiv 10 else if i = 3 then tP3 I F t fi J G else G 3 i
def tFo (I : Nat → Int) (F : Nat → Int → Int) (t fi : Int) (J : Nat → Int) (G : Nat → Int → Int) : Int := clampZ (tPa I F t fi J G 0 + tPa I F t fi J G 1 + tPa I F t fi J G 2 + tPa I F t fi J G 3) 1000
def tSp (I : Nat → Int) (F : Nat → Int → Int) (t fi : Int) (J : Nat → Int) (G : Nat → Int → Int) : Int := clampZ (J 1 + (tFo I F t fi J G).tdiv (I 24)) 30
def tSl (I : Nat → Int) (F : Nat → Int → Int) (t fi : Int) (J : Nat → Int) (G : Nat → Int → Int) : Int := clampZ (J 0 + tSp I F t fi J G) 80
def tSi (I : Nat → Int) (F : Nat → Int → Int) (t fi : Int) (J : Nat → Int) (G : Nat → Int → Int) : Int := J 2 + (if 4 < absI (tSp I F t fi J G) then absI (tSp I F t fi J G) - 4 else 0)
def tWo (I : Nat → Int) (F : Nat → Int → Int) (t fi : Int) (J : Nat → Int) (G : Nat → Int → Int) : Int := J 3 + (if soZ F 0 (nmS I F (tSl I F t fi J G) (tSp I F t fi J G) t (tSi I F t fi J G) (G 1) (tPl I F J G)) = 0 then 0 else 1)
def isWetS (I : Nat → Int) (F : Nat → Int → Int) (sl m : Int) : Int := if tLv I F sl ≠ -2147483648 ∧ 100 * F 17 m ≤ tLv I F sl + sl * F 16 m then 1 else 0
/-- a whole tick -/
def tkJ2 (I : Nat → Int) (F : Nat → Int → Int) (t fi : Int) (J : Nat → Int) (G : Nat → Int → Int) : Nat → Int := fun k => if k = 0 then tSl I F t fi J G else if k = 1 then tSp I F t fi J G else if k = 2 then tSi I F t fi J G else if k = 3 then tWo I F t fi J G else if k = 4 then (if J 0 + tSp I F t fi J G = tSl I F t fi J G then 0 else 1) else if k = 5 then tFo I F t fi J G else if k = 6 then 1 else J k
def tkG2 (I : Nat → Int) (F : Nat → Int → Int) (t fi : Int) (J : Nat → Int) (G : Nat → Int → Int) : Nat → Int → Int := fun k => if k = 0 then tPl I F J G else if k = 1 then fedT (G 1) 0 (isWetS I F (tSl I F t fi J G)) (I 15) else if k = 2 then fedT (G 2) 0 (fun m => if isWetS I F (tSl I F t fi J G) m = 1 ∧ G 1 m = 0 then G 2 m + 1 else G 2 m) (I 15) else if k = 3 then tPa I F t fi J G else G k
def tkJ (I : Nat → Int) (F : Nat → Int → Int) (t fi : Int) (J : Nat → Int) (G : Nat → Int → Int) : Nat → Int := fun k =>
  if J 4 ≠ 0 then (if k = 5 ∨ k = 6 then 0 else J k)
  else if tLv I F (J 0) = -2147483648 then (if k = 5 ∨ k = 6 then 0 else if k = 4 then 1 else J k)
  else tkJ2 I F t fi J G k
def tkG (I : Nat → Int) (F : Nat → Int → Int) (t fi : Int) (J : Nat → Int) (G : Nat → Int → Int) : Nat → Int → Int := fun k =>
  if J 4 ≠ 0 then G k
  else if tLv I F (J 0) = -2147483648 then (if k = 0 then tPl I F J G else G k)
  else tkG2 I F t fi J G k
/-- bounds of a ship that has gone on for at most n ticks -/
def gShip (n : Int) (J : Nat → Int) (G : Nat → Int → Int) : Prop := (-80 ≤ J 0 ∧ J 0 ≤ 80) ∧ (-30 ≤ J 1 ∧ J 1 ≤ 30) ∧ (0 ≤ J 2 ∧ J 2 ≤ 26 * n) ∧ (0 ≤ J 3 ∧ J 3 ≤ n) ∧ (0 ≤ J 4 ∧ J 4 ≤ 1) ∧ Bd (G 0) 12 (-19) 19 ∧ Bd (G 1) 6 0 1
theorem soZ_01 (F : Nat → Int → Int) (c : Int) (nm : Int → Int) : soZ F c nm = 0 ∨ soZ F c nm = 1 := by
  unfold soZ
  repeat' split
  all_goals omega
theorem tPl_bd {I : Nat → Int} {F : Nat → Int → Int} {J : Nat → Int} {G : Nat → Int → Int} (hw : 0 ≤ I 4 ∧ I 4 ≤ 12) (h : Bd (G 0) 12 (-19) 19) : Bd (tPl I F J G) 12 (-19) 19 := fedT_bd h (fun i h0 h1 => slidS_bd (h i h0 (by omega)))
theorem gShip_tick {n : Int} {I : Nat → Int} {F : Nat → Int → Int} {t fi : Int} {J : Nat → Int} {G : Nat → Int → Int} (hn : 0 ≤ n) (hw : 0 ≤ I 4 ∧ I 4 ≤ 12) (hm : 0 ≤ I 15 ∧ I 15 ≤ 6) (h : gShip n J G) : gShip (n + 1) (tkJ I F t fi J G) (tkG I F t fi J G) := by
  obtain ⟨h0, h1, h2, h3, h4, h5, h6⟩ := h
  have hp := tPl_bd (F := F) (J := J) hw h5
  by_cases c1 : J 4 ≠ 0
  · have eJ : tkJ I F t fi J G = fun k => if k = 5 ∨ k = 6 then 0 else J k := by funext k; unfold tkJ; rw [if_pos c1]
    have eG : tkG I F t fi J G = G := by funext k; unfold tkG; rw [if_pos c1]
    rw [eJ, eG]
    exact ⟨h0, h1, ⟨h2.1, by show J 2 ≤ _; omega⟩, ⟨h3.1, by show J 3 ≤ _; omega⟩, h4, h5, h6⟩
  · by_cases c2 : tLv I F (J 0) = -2147483648
    · have eJ : tkJ I F t fi J G = fun k => if k = 5 ∨ k = 6 then 0 else if k = 4 then 1 else J k := by funext k; unfold tkJ; rw [if_neg c1, if_pos c2]
      have eG : tkG I F t fi J G = fun k => if k = 0 then tPl I F J G else G k := by funext k; unfold tkG; rw [if_neg c1, if_pos c2]
      rw [eJ, eG]
      exact ⟨h0, h1, ⟨h2.1, by show J 2 ≤ _; omega⟩, ⟨h3.1, by show J 3 ≤ _; omega⟩, by show (0 : Int) ≤ 1 ∧ (1 : Int) ≤ 1; decide, hp, h6⟩
    · have eJ : tkJ I F t fi J G = tkJ2 I F t fi J G := by funext k; unfold tkJ; rw [if_neg c1, if_neg c2]
      have eG : tkG I F t fi J G = tkG2 I F t fi J G := by funext k; unfold tkG; rw [if_neg c1, if_neg c2]
      rw [eJ, eG]
      have b1 : -30 ≤ tSp I F t fi J G ∧ tSp I F t fi J G ≤ 30 := clampZ_bd (by decide)
      have b0 : -80 ≤ tSl I F t fi J G ∧ tSl I F t fi J G ≤ 80 := clampZ_bd (by decide)
      refine ⟨b0, b1, ?_, ?_, ?_, hp, ?_⟩
      · show 0 ≤ tSi I F t fi J G ∧ tSi I F t fi J G ≤ 26 * (n + 1)
        unfold tSi absI
        repeat' split
        all_goals omega
      · show 0 ≤ tWo I F t fi J G ∧ tWo I F t fi J G ≤ n + 1
        unfold tWo
        split <;> omega
      · show 0 ≤ (if J 0 + tSp I F t fi J G = tSl I F t fi J G then (0 : Int) else 1) ∧ (if J 0 + tSp I F t fi J G = tSl I F t fi J G then (0 : Int) else 1) ≤ 1
        split <;> decide
      · show Bd (fedT (G 1) 0 (isWetS I F (tSl I F t fi J G)) (I 15)) 6 0 1
        refine fedT_bd h6 (fun i _ _ => ?_)
        unfold isWetS
        split <;> decide
