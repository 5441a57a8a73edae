/-! THE MODEL's state: bounds by groups of fields -/
def sin16 (k : Int) : Int := ([0, 383, 707, 924, 1000, 924, 707, 383, 0, -383, -707, -924, -1000, -924, -707, -383] : List Int).getD k.toNat 0
theorem sin16_bd (k : Int) : -1000 ≤ sin16 k ∧ sin16 k ≤ 1000 := by
  unfold sin16
  have h : ∀ n : Nat, n < 16 → -1000 ≤ ([0, 383, 707, 924, 1000, 924, 707, 383, 0, -383, -707, -924, -1000, -924, -707, -383] : List Int).getD n 0 ∧ ([0, 383, 707, 924, 1000, 924, 707, 383, 0, -383, -707, -924, -1000, -924, -707, -383] : List Int).getD n 0 ≤ 1000 := by decide
  by_cases hk : k.toNat < 16
  · exact h _ hk
  · rw [List.getD_eq_getElem?_getD, List.getElem?_eq_none (by show 16 ≤ k.toNat; omega)]
    decide
def gHull (I : Nat → Int) (F : Nat → Int → Int) : Prop := (0 ≤ I 1 ∧ I 1 ≤ 6) ∧ Bd (F 2) 6 0 20 ∧ Bd (F 3) 60 0 9
def gLoad (I : Nat → Int) (F : Nat → Int → Int) : Prop := (0 ≤ I 4 ∧ I 4 ≤ 12) ∧ Bd (F 5) 12 0 500 ∧ Bd (F 6) 12 (-19) 19 ∧ Bd (F 7) 12 0 40 ∧ Bd (F 8) 12 (-1) 80 ∧ Bd (F 9) 12 0 1 ∧ (0 ≤ I 10 ∧ I 10 ≤ 4) ∧ Bd (F 11) 4 0 9 ∧ Bd (F 12) 4 0 40 ∧ Bd (F 13) 4 0 300 ∧ Bd (F 14) 4 0 300 ∧ (∀ k, 0 ≤ k → k < 4 → F 14 k ≤ F 13 k)
def gMark (I : Nat → Int) (F : Nat → Int → Int) : Prop := (0 ≤ I 15 ∧ I 15 ≤ 6) ∧ Bd (F 16) 6 (-19) 19 ∧ Bd (F 17) 6 0 40
def gSea (I : Nat → Int) (F : Nat → Int → Int) : Prop := (0 ≤ I 18 ∧ I 18 ≤ 8) ∧ (∀ k, 0 ≤ k → k < 16 → F 0 k = sin16 k) ∧ Bd (F 19) 8 0 60 ∧ Bd (F 20) (I 18) 4 64 ∧ Bd (F 21) 8 0 15
def gSet (I : Nat → Int) : Prop := (1 ≤ I 22 ∧ I 22 ≤ 1000000) ∧ (0 ≤ I 23 ∧ I 23 ≤ 50) ∧ (1 ≤ I 24 ∧ I 24 ≤ 50) ∧ (0 ≤ I 25 ∧ I 25 ≤ 9)
def gWay (I : Nat → Int) (F : Nat → Int → Int) : Prop := (0 ≤ I 41 ∧ I 41 ≤ 12) ∧ (4 ≤ I 44 ∧ I 44 ≤ 64) ∧ Bd (F 42) 12 0 60 ∧ Bd (F 43) 12 0 64
def gRec (I : Nat → Int) (F : Nat → Int → Int) : Prop := (0 ≤ I 45 ∧ I 45 ≤ 64) ∧ Bd (F 46) 64 (-80) 80
def gTxt (I : Nat → Int) (F : Nat → Int → Int) : Prop := (0 ≤ I 48 ∧ I 48 ≤ 300) ∧ Bd (F 47) 300 (-128) 127
def gKept (I : Nat → Int) (F : Nat → Int → Int) : Prop := (0 ≤ I 26 ∧ I 26 ≤ 600) ∧ Bd (F 36) 600 (-80) 80 ∧ Bd (F 37) 600 (-30) 30 ∧ Bd (F 38) 600 (-1000) 1000 ∧ Bd (F 39) (I 26) 1 50 ∧ Bd (F 40) 600 0 1
/-- the sea -/
def sineS (per pha t : Int) : Int := sin16 (((16 * t).tdiv per + pha).tmod 16)
def seaS (nw : Int) (hei per pha : Int → Int) (t : Int) : Int := sm (fun w => (hei w * sineS (per w) (pha w) t).tdiv 1000) nw
def heavyS (nw : Int) (lost mass : Int → Int) (nt : Int) (has : Int → Int) : Int := sm (fun w => if lost w = 0 then mass w else 0) nw + sm has nt
