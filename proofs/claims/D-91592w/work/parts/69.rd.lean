/-! THE READER: its world while it reads -/
set_option maxRecDepth 100000
def RD (E : Nat → ClassId) (adK : Nat → Nat) (x : Int → Int) (n : Int) (V : Nat → Prop) (ad : Nat → Nat) (C : Nat → va_E) (k fr to vl fa mo : Int) (cap b0 : Nat) (all : List (Int × Int)) : Prop :=
  (V 1 ∧ C 1 = .inl (E 1, 300, ai x)) ∧
  (V 6000 ∧ C 6000 = .inr (8, [.ref (ad 6001), .ref (ad 6002), .ref (ad 1), .int (iI n), .ref (ad 6003), .ref (ad 6005), .int (iI k), .int (iI fr), .int (iI to), .int (iI vl), .int (iI fa)])) ∧
  (V 6001 ∧ C 6001 = .inl (E 8, 2, ar (fun j => some (adK (1 + j))))) ∧
  (V 6002 ∧ C 6002 = .inl (E 8, 7, ar (fun j => some (adK (3 + j))))) ∧
  (V 6003 ∧ C 6003 = .inr (10, [.int (iI mo), .ref (ad 6004), .int (iI ((all.length : Int) - (b0 : Int)))])) ∧
  (V 6004 ∧ C 6004 = .inl (E 5, cap, ar (fun j => if b0 + j < all.length then some (ad (7000 + (b0 + j))) else none))) ∧
  (∀ j, j < all.length → V (7000 + j) ∧ C (7000 + j) = mkE (all.getD j (0, 0)).1 (all.getD j (0, 0)).2) ∧
  (¬ V 6008 ∧ ∀ j, all.length ≤ j → ¬ V (7000 + j)) ∧
  b0 ≤ all.length ∧ all.length ≤ b0 + cap ∧ 4 ≤ cap ∧ cap ≤ 600
/-- what the reader leaves as it is -/
def OT (m : Nat) (V : Nat → Prop) (ad : Nat → Nat) (C : Nat → va_E) (V1 : Nat → Prop) (ad1 : Nat → Nat) (C1 : Nat → va_E) : Prop := ∀ q, (q ≤ 6003 ∨ (6005 ≤ q ∧ q ≤ 6007) ∨ (7000 ≤ q ∧ q < 7000 + m)) → ad1 q = ad q ∧ (V1 q ↔ V q) ∧ (q ≠ 6000 → q ≠ 6003 → C1 q = C q)
section RDL
variable {E : Nat → ClassId} {adK : Nat → Nat} {x : Int → Int} {n : Int} {V V1 V2 : Nat → Prop} {ad ad1 ad2 : Nat → Nat} {C C1 C2 : Nat → va_E} {k fr to vl fa mo k' fr' to' vl' fa' : Int} {cap b0 m m1 : Nat} {all : List (Int × Int)}
theorem OT.rf : OT m V ad C V ad C := fun _ _ => ⟨rfl, Iff.rfl, fun _ _ => rfl⟩
theorem OT.tr (h : OT m V ad C V1 ad1 C1) (h1 : OT m1 V1 ad1 C1 V2 ad2 C2) (hm : m ≤ m1) : OT m V ad C V2 ad2 C2 := fun q hq => by
  obtain ⟨a1, a2, a3⟩ := h q hq
  obtain ⟨b1, b2, b3⟩ := h1 q (by omega)
  exact ⟨b1.trans a1, b2.trans a2, fun c d => (b3 c d).trans (a3 c d)⟩
theorem OT.set (h : OT m V ad C V1 ad1 C1) (ho : ∀ q, q ≠ 6000 → C2 q = C1 q) : OT m V ad C V1 ad1 C2 := fun q hq => by
  obtain ⟨a1, a2, a3⟩ := h q hq
  exact ⟨a1, a2, fun c d => (ho q c).trans (a3 c d)⟩
theorem RD.tok (h : RD E adK x n V ad C k fr to vl fa mo cap b0 all) (hk : C1 6000 = .inr (8, [.ref (ad 6001), .ref (ad 6002), .ref (ad 1), .int (iI n), .ref (ad 6003), .ref (ad 6005), .int (iI k'), .int (iI fr'), .int (iI to'), .int (iI vl'), .int (iI fa')])) (ho : ∀ q, q ≠ 6000 → C1 q = C q) : RD E adK x n V ad C1 k' fr' to' vl' fa' mo cap b0 all := by
  obtain ⟨⟨h1, h2⟩, ⟨h3, h4⟩, ⟨h5, h6⟩, ⟨h7, h8⟩, ⟨h9, h10⟩, ⟨h11, h12⟩, h13, h14⟩ := h
  exact ⟨⟨h1, (ho 1 (by decide)).trans h2⟩, ⟨h3, hk⟩, ⟨h5, (ho 6001 (by decide)).trans h6⟩, ⟨h7, (ho 6002 (by decide)).trans h8⟩, ⟨h9, (ho 6003 (by decide)).trans h10⟩, ⟨h11, (ho 6004 (by decide)).trans h12⟩, fun j hj => ⟨(h13 j hj).1, (ho _ (by omega)).trans (h13 j hj).2⟩, h14⟩
theorem mkE_ob (d w : Int) (h : C m = mkE d w) : isOb C m := by
  unfold mkE at h
  by_cases c0 : d = 0
  · rw [if_pos c0] at h; exact ⟨9, _, _, h, rfl, q1554⟩
  rw [if_neg c0] at h
  by_cases c1 : d = 1
  · rw [if_pos c1] at h; exact ⟨9, _, _, h, rfl, q1554⟩
  rw [if_neg c1] at h
  exact ⟨7, _, _, h, rfl, q1553⟩
/-- the elements, with one more object at hand -/
theorem RD.el (h : RD E adK x n V ad C k fr to vl fa mo cap b0 all) (hV : V1 = fun q => V q ∨ q = 7000 + all.length) (ho : ∀ q, q ≠ 7000 + all.length → ad1 q = ad q ∧ C1 q = C q) : elOK V1 ad1 C1 6003 6004 (fun j => if b0 + j < all.length then some (ad (7000 + (b0 + j))) else none) := by
  obtain ⟨-, -, -, -, -, -, h13, -⟩ := h
  intro i y hy
  have hy : (if b0 + i < all.length then some (ad (7000 + (b0 + i))) else none) = some y := hy
  by_cases c : b0 + i < all.length
  · rw [if_pos c] at hy
    cases hy
    have hq := h13 (b0 + i) c
    have hoq := ho (7000 + (b0 + i)) (by omega)
    exact ⟨7000 + (b0 + i), hoq.1.symm, by rw [hV]; exact Or.inl hq.1, by omega, by omega, mkE_ob _ _ (hoq.2.trans hq.2)⟩
  · rw [if_neg c] at hy
    cases hy
theorem getD_app {l : List (Int × Int)} {e : Int × Int} {j : Nat} : (l ++ [e]).getD j (0, 0) = if j < l.length then l.getD j (0, 0) else if j = l.length then e else (0, 0) := by
  simp only [List.getD_eq_getElem?_getD]
  by_cases c : j < l.length
  · rw [if_pos c, List.getElem?_append_left c]
  · rw [if_neg c]
    by_cases c2 : j = l.length
    · rw [if_pos c2, c2]; simp
    · rw [if_neg c2, List.getElem?_eq_none (by simp; omega)]; rfl
/-- one more mark -/
theorem RD.put {a' w' mo1 : Int} {cap1 : Nat} (h : RD E adK x n V ad C k fr to vl fa mo cap b0 all) (hV : V2 = fun q => V q ∨ q = 7000 + all.length) (hm : C2 (7000 + all.length) = mkE a' w') (hoa : ∀ q, q ≠ 7000 + all.length → q ≠ 6004 → q ≠ 6008 → ad2 q = ad q) (hoc : ∀ q, q ≠ 7000 + all.length → q ≠ 6004 → q ≠ 6003 → q ≠ 6008 → C2 q = C q)
    (hL : C2 6003 = .inr (10, [.int (iI mo1), .ref (ad2 6004), .int (iI ((all.length : Int) - (b0 : Int) + 1))])) (hA : C2 6004 = .inl (E 5, cap1, ar (va_up (fun j => if b0 + j < all.length then some (ad (7000 + (b0 + j))) else none) ((all.length : Int) - (b0 : Int)).toNat (some (ad2 (7000 + all.length)))))) (hc1 : (all.length < b0 + cap ∧ cap1 = cap) ∨ (all.length = b0 + cap ∧ cap1 = cap + cap / 2)) (hle : cap1 ≤ 600) :
    RD E adK x n V2 ad2 C2 k fr to vl fa mo1 cap1 b0 (all ++ [(a', w')]) ∧ OT all.length V ad C V2 ad2 C2 := by
  have h0 := h
  obtain ⟨⟨h1, h2⟩, ⟨h3, h4⟩, ⟨h5, h6⟩, ⟨h7, h8⟩, ⟨h9, h10⟩, ⟨h11, h12⟩, h13, ⟨h14, h15⟩, h16, h17, h18, h19⟩ := h
  have hv : ∀ q, V q → V2 q := fun q hq => by rw [hV]; exact Or.inl hq
  have len : (all ++ [(a', w')]).length = all.length + 1 := by simp
  have e1 : ad2 6001 = ad 6001 := hoa _ (by omega) (by decide) (by decide)
  have e2 : ad2 6002 = ad 6002 := hoa _ (by omega) (by decide) (by decide)
  have e3 : ad2 1 = ad 1 := hoa _ (by omega) (by decide) (by decide)
  have e4 : ad2 6003 = ad 6003 := hoa _ (by omega) (by decide) (by decide)
  have e5 : ad2 6005 = ad 6005 := hoa _ (by omega) (by decide) (by decide)
  refine ⟨⟨⟨hv _ h1, (hoc 1 (by omega) (by decide) (by decide) (by decide)).trans h2⟩, ⟨hv _ h3, by rw [e1, e2, e3, e4, e5]; exact (hoc 6000 (by omega) (by decide) (by decide) (by decide)).trans h4⟩, ⟨hv _ h5, (hoc 6001 (by omega) (by decide) (by decide) (by decide)).trans h6⟩, ⟨hv _ h7, (hoc 6002 (by omega) (by decide) (by decide) (by decide)).trans h8⟩, ⟨hv _ h9, ?_⟩, ⟨hv _ h11, ?_⟩, ?_, ⟨?_, ?_⟩, by omega, by omega, by omega, hle⟩, ?_⟩
  · rw [hL, len, show (((all.length + 1 : Nat) : Int) - (b0 : Int)) = (all.length : Int) - (b0 : Int) + 1 by omega]
  · rw [hA]
    congr 4
    funext j
    by_cases c : j = ((all.length : Int) - (b0 : Int)).toNat
    · rw [c, va_up_s, len, if_pos (by omega), show b0 + ((all.length : Int) - (b0 : Int)).toNat = all.length by omega]
    · rw [va_up_ne _ _ c, len]
      by_cases c2 : b0 + j < all.length
      · rw [if_pos c2, if_pos (by omega), hoa (7000 + (b0 + j)) (by omega) (by omega) (by omega)]
      · rw [if_neg c2, if_neg (by omega)]
  · intro j hj
    rw [len] at hj
    rw [getD_app]
    by_cases c : j < all.length
    · rw [if_pos c]
      exact ⟨hv _ (h13 j c).1, (hoc _ (by omega) (by omega) (by omega) (by omega)).trans (h13 j c).2⟩
    · have : j = all.length := by omega
      subst this
      rw [if_neg c, if_pos rfl]
      exact ⟨by rw [hV]; exact Or.inr rfl, hm⟩
  · rw [hV]
    rintro (h | h)
    · exact h14 h
    · omega
  · intro j hj
    rw [len] at hj
    rw [hV]
    rintro (h | h)
    · exact h15 j (by omega) h
    · omega
  · intro q hq
    refine ⟨hoa q (by omega) (by omega) (by omega), ?_, fun c d => hoc q (by omega) (by omega) d (by omega)⟩
    rw [hV]
    exact ⟨fun z => z.resolve_right (by omega), fun z => Or.inl z⟩
end RDL
/-- not more is said than tokens are read, even where it doesn't stand -/
def PRl (n p : Int) (r : PR) : Prop := (p ≤ r.2.1 ∧ r.2.1 ≤ n) ∧ (r.2.2.length : Int) ≤ r.2.1 - p
theorem PRl_sq {n p : Int} {a : PR} {k : Int → PR} (ha : PRl n p a) (hk : a.1 = true → PRl n a.2.1 (k a.2.1)) : PRl n p (sq a k) := by
  unfold sq
  by_cases c : a.1 = true
  · rw [if_pos c]
    obtain ⟨h1, h2⟩ := ha
    obtain ⟨h3, h4⟩ := hk c
    refine ⟨⟨by show p ≤ (k a.2.1).2.1; omega, h3.2⟩, ?_⟩
    show ((a.2.2 ++ (k a.2.1).2.2).length : Int) ≤ (k a.2.1).2.1 - p
    rw [List.length_append]
    omega
  · rw [if_neg c]
    exact ha
theorem PRl_at {n p : Int} (b : Bool) (h : p ≤ n) : PRl n p (b, p, []) := ⟨⟨Int.le_refl _, h⟩, by show ((0 : Nat) : Int) ≤ p - p; omega⟩
theorem PRl_tk {x : Int → Int} {n p : Int} (hp : p ≤ n) (hk : tK x n p ≠ 0) {r : PR} (h : PRl n (tT x n p) r) : PRl n p r := by
  have h1 := tF_bd x hp
  have h2 := tT_bd x hp
  have h3 := tK_n0 hk
  obtain ⟨h4, h5⟩ := h
  exact ⟨⟨by omega, h4.2⟩, by omega⟩
theorem PRl_em {x : Int → Int} {n p : Int} (hp : p ≤ n) (hk : tK x n p ≠ 0) {a : PR} (h : PRl n (tT x n p) a) (e : Int × Int) : PRl n p (sq a (fun p1 => (true, p1, [e]))) := by
  have h1 := tF_bd x hp
  have h2 := tT_bd x hp
  have h3 := tK_n0 hk
  unfold sq
  by_cases c : a.1 = true
  · rw [if_pos c]
    obtain ⟨h4, h5⟩ := h
    refine ⟨⟨by show p ≤ a.2.1; omega, h4.2⟩, ?_⟩
    show ((a.2.2 ++ [e]).length : Int) ≤ a.2.1 - p
    rw [List.length_append, List.length_singleton]
    omega
  · rw [if_neg c]
    exact PRl_tk hp hk h
theorem PRl_sg {x : Int → Int} {n p : Int} (hp : p ≤ n) (c : Int) : PRl n p (if tK x n p = 3 ∧ tV x n p = c then (true, tT x n p, []) else (false, p, [])) := by
  have h1 := tF_bd x hp
  have h2 := tT_bd x hp
  split
  · exact ⟨⟨by show p ≤ tT x n p; omega, h2.2.1⟩, by show ((0 : Nat) : Int) ≤ tT x n p - p; omega⟩
  · exact PRl_at false hp
theorem ps_len (x : Int → Int) (n : Int) : ∀ (f : Nat) (s d p : Int), p ≤ n → PRl n p (ps x n f s d p)
  | 0, _, _, p, hp => PRl_at false hp
  | f + 1, s, d, p, hp => by
    have ih := ps_len x n f
    have hT := (tT_bd x hp).2.1
    have rest : ∀ (a : PR) (s : Int), PRl n p a → PRl n p (sq a (fun p1 => ps x n f s d p1)) := fun a s ha => PRl_sq ha (fun _ => ih s d _ ha.1.2)
    by_cases c1 : s = 1
    · subst c1; rw [ps_1]; exact rest _ _ (ih 3 d p hp)
    by_cases c2 : s = 2
    · subst c2; rw [ps_2]; split
      · rename_i c; exact rest _ _ (PRl_em hp (by omega) (ih 3 d _ hT) _)
      · exact PRl_at true hp
    by_cases c3 : s = 3
    · subst c3; rw [ps_3]; exact rest _ _ (ih 5 d p hp)
    by_cases c4 : s = 4
    · subst c4; rw [ps_4]; split
      · rename_i c; exact rest _ _ (PRl_em hp (by omega) (ih 5 d _ hT) _)
      · exact PRl_at true hp
    by_cases c5 : s = 5
    · subst c5; rw [ps_5]; split
      · rename_i c
        split
        · exact PRl_at false hp
        · have := PRl_em (x := x) hp (by omega) (PRl_at true hT) (0, tV x n p)
          exact this
      · split
        · rename_i c
          have := PRl_em (x := x) hp (by omega) (PRl_at true hT) (1, tV x n p - 2)
          exact this
        · split
          · rename_i c
            exact PRl_tk hp (by omega) (PRl_sq (ih 1 (d + 1) _ hT) (fun _ => PRl_sg (ih 1 (d + 1) _ hT).1.2 41))
          · exact PRl_at false hp
    by_cases c6 : s = 6
    · subst c6; rw [ps_6]; exact rest _ _ (ih 8 d p hp)
    by_cases c7 : s = 7
    · subst c7; rw [ps_7]; split
      · rename_i c; exact rest _ _ (PRl_em hp (by omega) (ih 8 d _ hT) _)
      · exact PRl_at true hp
    by_cases c8 : s = 8
    · subst c8; rw [ps_8]; exact rest _ _ (ih 10 d p hp)
    by_cases c9 : s = 9
    · subst c9; rw [ps_9]; split
      · rename_i c; exact rest _ _ (PRl_em hp (by omega) (ih 10 d _ hT) _)
      · exact PRl_at true hp
    by_cases c10 : s = 10
    · subst c10; rw [ps_10]; split
      · rename_i c
        split
        · exact PRl_at false hp
        · exact PRl_em hp (by omega) (ih 10 (d + 1) _ hT) _
      · split
        · rename_i c
          split
          · exact PRl_at false hp
          · exact PRl_tk hp (by omega) (PRl_sq (ih 6 (d + 1) _ hT) (fun _ => PRl_sg (ih 6 (d + 1) _ hT).1.2 93))
        · exact rest _ _ (ih 1 d p hp)
    by_cases c11 : s = 11
    · subst c11; rw [ps_11]; split
      · rename_i c; exact PRl_em hp (by omega) (ih 1 d _ hT) _
      · exact PRl_at false hp
    have e : ps x n (f + 1) s d p = (false, p, []) := by
      show (if s = 1 then _ else _) = _
      rw [if_neg c1, if_neg c2, if_neg c3, if_neg c4, if_neg c5, if_neg c6, if_neg c7, if_neg c8, if_neg c9, if_neg c10, if_neg c11]
    rw [e]
    exact PRl_at false hp
theorem csN_le {j k : Nat} (c m : Nat) (h : j ≤ k) : csN j c m ≤ csN k c m ∧ slN j c m ≤ slN k c m := by
  obtain ⟨i, rfl⟩ := Nat.exists_eq_add_of_le h
  rw [csN_add, slN_add]
  omega
/-- one more: a cell for it, and a row where the list is full -/
theorem csN_1 (j c m : Nat) : csN (j + 1) c m = csN j c m + 1 + (if m + j = cpN j c m then 1 else 0) ∧ slN (j + 1) c m = slN j c m + 2 + (if m + j = cpN j c m then cpN j c m + cpN j c m / 2 else 0) ∧ cpN (j + 1) c m = (if m + j = cpN j c m then cpN j c m + cpN j c m / 2 else cpN j c m) := by
  rw [csN_add, slN_add, cpN_add]
  refine ⟨?_, ?_, rfl⟩
  · show _ + ((if m + j = cpN j c m then 2 else 1) + 0) = _
    split <;> omega
  · show _ + (2 + (if m + j = cpN j c m then _ else 0) + 0) = _
    omega
