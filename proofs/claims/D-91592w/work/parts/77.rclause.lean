/-! THE READER: rows of marks, plain -/
set_option maxRecDepth 100000

def clF (ad : Nat → Nat) (bg : Int → Int) : Nat → Option Nat := fun j => if j < 2 ∧ bg j ≠ -1 then some (ad (6006 + j)) else none
def clR (ad : Nat → Nat) (b : Int) (k : Nat) : Nat → Option Nat := fun i => if i < k then some (ad (7000 + (b.toNat + i))) else none
/-- the rows of marks that were made -/
def CL (E : Nat → ClassId) (V : Nat → Prop) (ad : Nat → Nat) (C : Nat → va_E) (bg cs : Int → Int) (m : Nat) : Prop :=
  (V 6005 ∧ C 6005 = .inl (E 7, 2, ar (clF ad bg))) ∧
  ∀ j : Nat, j < 2 → (bg j = -1 ∧ ¬ V (6006 + j)) ∨ ((0 ≤ bg j ∧ bg j ≤ cs j ∧ cs j ≤ (m : Int)) ∧ V (6006 + j) ∧ C (6006 + j) = .inl (E 6, (cs j - bg j).toNat, ar (clR ad (bg j) (cs j - bg j).toNat)))
section CLS
variable {E : Nat → ClassId} {adK : Nat → Nat} {x : Int → Int} {n : Int} {V V1 : Nat → Prop} {ad ad1 : Nat → Nat} {C C1 : Nat → va_E} {k fr to vl fa mo mo1 : Int} {cap b0 m m1 : Nat} {all : List (Int × Int)} {bg cs : Int → Int}
theorem CL.ot (h : CL E V ad C bg cs m) (ho : OT m V ad C V1 ad1 C1) (hm : m ≤ m1) : CL E V1 ad1 C1 bg cs m1 := by
  obtain ⟨⟨h1, h2⟩, h3⟩ := h
  have a5 := ho 6005 (Or.inr (Or.inl (by decide)))
  have a6 := fun j : Nat => fun (hj : j < 2) => ho (6006 + j) (Or.inr (Or.inl (by omega)))
  refine ⟨⟨a5.2.1.mpr h1, ?_⟩, ?_⟩
  · rw [a5.2.2 (by decide) (by decide), h2]
    have e : clF ad bg = clF ad1 bg := by
      funext j
      unfold clF
      by_cases c : j < 2 ∧ bg j ≠ -1
      · rw [if_pos c, if_pos c, (a6 j c.1).1]
      · rw [if_neg c, if_neg c]
    rw [e]
  · intro j hj
    rcases h3 j hj with ⟨q1, q2⟩ | ⟨q1, q2, q3⟩
    · exact Or.inl ⟨q1, fun z => q2 ((a6 j hj).2.1.mp z)⟩
    · refine Or.inr ⟨by omega, (a6 j hj).2.1.mpr q2, ?_⟩
      rw [(a6 j hj).2.2 (by omega) (by omega), q3]
      have e : clR ad (bg j) (cs j - bg j).toNat = clR ad1 (bg j) (cs j - bg j).toNat := by
        funext i
        unfold clR
        by_cases c : i < (cs j - bg j).toNat
        · rw [if_pos c, if_pos c, (ho (7000 + ((bg j).toNat + i)) (Or.inr (Or.inr (by omega)))).1]
        · rw [if_neg c, if_neg c]
      rw [e]
theorem RD.clr (h : RD E adK x n V ad C k fr to vl fa mo cap b0 all) (hL : C1 6003 = .inr (10, [.int (iI mo1), .ref (ad 6004), .int (iI 0)])) (hA : C1 6004 = .inl (E 5, cap, ar (fun _ => none))) (ho : ∀ q, q ≠ 6004 → q ≠ 6003 → C1 q = C q) : RD E adK x n V ad C1 k fr to vl fa mo1 cap all.length all := by
  obtain ⟨⟨h1, h2⟩, ⟨h3, h4⟩, ⟨h5, h6⟩, ⟨h7, h8⟩, ⟨h9, h10⟩, ⟨h11, h12⟩, h13, h14, h16, h17, h18, h19⟩ := h
  refine ⟨⟨h1, (ho 1 (by decide) (by decide)).trans h2⟩, ⟨h3, (ho 6000 (by decide) (by decide)).trans h4⟩, ⟨h5, (ho 6001 (by decide) (by decide)).trans h6⟩, ⟨h7, (ho 6002 (by decide) (by decide)).trans h8⟩, ⟨h9, ?_⟩, ⟨h11, ?_⟩, fun j hj => ⟨(h13 j hj).1, (ho _ (by omega) (by omega)).trans (h13 j hj).2⟩, h14, Nat.le_refl _, Nat.le_add_right _ _, h18, h19⟩
  · rw [hL, show ((all.length : Int) - (all.length : Int)) = 0 by omega]
  · rw [hA]
    congr 4
    funext j
    rw [if_neg (by omega)]
theorem RD.cg (h : RD E adK x n V ad C k fr to vl fa mo cap b0 all) (hV : ∀ q, (q ≤ 6004 ∨ q = 6008 ∨ 7000 ≤ q) → (V1 q ↔ V q)) (ha : ∀ q, (q ≤ 6005 ∨ 7000 ≤ q) → ad1 q = ad q) (hc : ∀ q, (q ≤ 6004 ∨ 7000 ≤ q) → C1 q = C q) : RD E adK x n V1 ad1 C1 k fr to vl fa mo cap b0 all := by
  obtain ⟨⟨h1, h2⟩, ⟨h3, h4⟩, ⟨h5, h6⟩, ⟨h7, h8⟩, ⟨h9, h10⟩, ⟨h11, h12⟩, h13, ⟨h14, h15⟩, h16⟩ := h
  refine ⟨⟨(hV 1 (by omega)).mpr h1, (hc 1 (by omega)).trans h2⟩, ⟨(hV 6000 (by omega)).mpr h3, ?_⟩, ⟨(hV 6001 (by omega)).mpr h5, (hc 6001 (by omega)).trans h6⟩, ⟨(hV 6002 (by omega)).mpr h7, (hc 6002 (by omega)).trans h8⟩, ⟨(hV 6003 (by omega)).mpr h9, ?_⟩, ⟨(hV 6004 (by omega)).mpr h11, ?_⟩, fun j hj => ⟨(hV _ (by omega)).mpr (h13 j hj).1, (hc _ (by omega)).trans (h13 j hj).2⟩, ⟨fun z => h14 ((hV _ (by omega)).mp z), fun j hj z => h15 j hj ((hV _ (by omega)).mp z)⟩, h16⟩
  · rw [ha 6001 (by omega), ha 6002 (by omega), ha 1 (by omega), ha 6003 (by omega), ha 6005 (by omega)]
    exact (hc 6000 (by omega)).trans h4
  · rw [ha 6004 (by omega)]
    exact (hc 6003 (by omega)).trans h10
  · rw [hc 6004 (by omega), h12]
    congr 4
    funext j
    rw [ha (7000 + (b0 + j)) (by omega)]
/-- what stands through a clause -/
def OC (V : Nat → Prop) (ad : Nat → Nat) (C : Nat → va_E) (V1 : Nat → Prop) (ad1 : Nat → Nat) (C1 : Nat → va_E) : Prop := (∀ q, q ≤ 6003 ∨ q = 6005 → ad1 q = ad q ∧ (V1 q ↔ V q)) ∧ ∀ q, q < 6000 → C1 q = C q
theorem OT.oc (h : OT m V ad C V1 ad1 C1) : OC V ad C V1 ad1 C1 := ⟨fun q hq => ⟨(h q (by omega)).1, (h q (by omega)).2.1⟩, fun q hq => (h q (by omega)).2.2 (by omega) (by omega)⟩
theorem clF_up {b z : Int} (hz : 0 ≤ z ∧ z < 2) (hb : 0 ≤ b) (ho : ∀ j : Nat, j < 2 → (j : Int) ≠ z → ad1 (6006 + j) = ad (6006 + j)) : va_up (clF ad bg) z.toNat (some (ad1 (6006 + z.toNat))) = clF ad1 (updZ bg z b) := by
  funext j
  by_cases c : j = z.toNat
  · subst c
    rw [va_up_s]
    unfold clF
    rw [show ((z.toNat : Nat) : Int) = z by omega, updZ_s, if_pos ⟨by omega, by omega⟩]
  · rw [va_up_ne _ _ c]
    unfold clF
    rw [updZ_n (show (j : Int) ≠ z by omega)]
    by_cases c2 : j < 2 ∧ bg j ≠ -1
    · rw [if_pos c2, if_pos c2, ho j c2.1 (by omega)]
    · rw [if_neg c2, if_neg c2]
theorem clR_s {b k : Int} (hk : 0 ≤ k) : va_up (clR ad b k.toNat) k.toNat (some (ad (7000 + (b.toNat + k.toNat)))) = clR ad b (k + 1).toNat := by
  funext i
  unfold clR
  by_cases c : i = k.toNat
  · subst c
    rw [va_up_s, if_pos (by omega)]
  · rw [va_up_ne _ _ c]
    by_cases c2 : i < k.toNat
    · rw [if_pos c2, if_pos (by omega)]
    · rw [if_neg c2, if_neg (by omega)]
theorem mkE_c2 {q : Nat} (d w : Int) (h : C q = mkE d w) : ∃ (ci : Nat) (fs : List Value) (r : vw_C), C q = .inr (ci, fs) ∧ clAll[ci]? = some r ∧ Cond.castable r.1 "ShipSways$Mark" ∈ lw_tbl := by
  unfold mkE at h
  by_cases c0 : d = 0
  · rw [if_pos c0] at h; exact ⟨9, _, _, h, rfl, q1541⟩
  rw [if_neg c0] at h
  by_cases c1 : d = 1
  · rw [if_pos c1] at h; exact ⟨9, _, _, h, rfl, q1541⟩
  rw [if_neg c1] at h
  exact ⟨7, _, _, h, rfl, q1540⟩
end CLS
