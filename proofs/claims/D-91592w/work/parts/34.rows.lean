/-! PLAIN WORDS: a whole text; what it says can be worked out -/
set_option maxRecDepth 100000
abbrev RR : Type := Bool × Int × List (Int × Int) × Int × (Int → Int) × (Int → Int)
def rwS (x : Int → Int) (n : Int) : Nat → Int → List (Int × Int) → Int → (Int → Int) → (Int → Int) → RR
  | 0, p, out, cl, bg, cs => (false, p, out, cl, bg, cs)
  | k + 1, p, out, cl, bg, cs => if tK x n p = 0 then (true, p, out, cl, bg, cs) else if tK x n p = 2 ∧ (0 ≤ tV x n p ∧ tV x n p ≤ 1) ∧ bg (tV x n p) = -1 then
      (if (ps x n 3000 6 0 (tT x n p)).1 = true ∧ tK x n (ps x n 3000 6 0 (tT x n p)).2.1 = 3 ∧ tV x n (ps x n 3000 6 0 (tT x n p)).2.1 = 59 then rwS x n k (tT x n (ps x n 3000 6 0 (tT x n p)).2.1) (out ++ (ps x n 3000 6 0 (tT x n p)).2.2) (tV x n p) (updZ bg (tV x n p) out.length) (updZ cs (tV x n p) (out ++ (ps x n 3000 6 0 (tT x n p)).2.2).length) else (false, (ps x n 3000 6 0 (tT x n p)).2.1, out, cl, bg, cs))
    else (false, p, out, cl, bg, cs)
theorem rwS_0 {x : Int → Int} {n p : Int} (k : Nat) (out : List (Int × Int)) (cl : Int) (bg cs : Int → Int) (h : tK x n p = 0) : rwS x n (k + 1) p out cl bg cs = (true, p, out, cl, bg, cs) := by
  show (if tK x n p = 0 then _ else _) = _
  rw [if_pos h]
theorem rwS_no {x : Int → Int} {n p : Int} (k : Nat) (out : List (Int × Int)) (cl : Int) (bg cs : Int → Int) (h : ¬ tK x n p = 0) (h2 : ¬ (tK x n p = 2 ∧ (0 ≤ tV x n p ∧ tV x n p ≤ 1) ∧ bg (tV x n p) = -1)) : rwS x n (k + 1) p out cl bg cs = (false, p, out, cl, bg, cs) := by
  show (if tK x n p = 0 then _ else _) = _
  rw [if_neg h, if_neg h2]
theorem rwS_bad {x : Int → Int} {n p : Int} (k : Nat) (out : List (Int × Int)) (cl : Int) (bg cs : Int → Int) {a : PR} (ha : ps x n 3000 6 0 (tT x n p) = a) (h2 : tK x n p = 2 ∧ (0 ≤ tV x n p ∧ tV x n p ≤ 1) ∧ bg (tV x n p) = -1) (h3 : ¬ (a.1 = true ∧ tK x n a.2.1 = 3 ∧ tV x n a.2.1 = 59)) : rwS x n (k + 1) p out cl bg cs = (false, a.2.1, out, cl, bg, cs) := by
  subst ha
  show (if tK x n p = 0 then _ else _) = _
  rw [if_neg (by omega), if_pos h2, if_neg h3]
theorem rwS_go {x : Int → Int} {n p : Int} (k : Nat) (out : List (Int × Int)) (cl : Int) (bg cs : Int → Int) {a : PR} (ha : ps x n 3000 6 0 (tT x n p) = a) (h2 : tK x n p = 2 ∧ (0 ≤ tV x n p ∧ tV x n p ≤ 1) ∧ bg (tV x n p) = -1) (h3 : a.1 = true ∧ tK x n a.2.1 = 3 ∧ tV x n a.2.1 = 59) : rwS x n (k + 1) p out cl bg cs = rwS x n k (tT x n a.2.1) (out ++ a.2.2) (tV x n p) (updZ bg (tV x n p) out.length) (updZ cs (tV x n p) (out ++ a.2.2).length) := by
  subst ha
  show (if tK x n p = 0 then _ else _) = _
  rw [if_neg (by omega), if_pos h2, if_pos h3]
/-- how many clauses have not begun -/
def cntB (bg : Int → Int) : Nat := (if bg 0 = -1 then 1 else 0) + (if bg 1 = -1 then 1 else 0)
theorem cntB_upd {bg : Int → Int} {c v : Int} (hc : 0 ≤ c ∧ c ≤ 1) (h : bg c = -1) (hv : 0 ≤ v) : cntB (updZ bg c v) + 1 = cntB bg := by
  rcases (show c = 0 ∨ c = 1 by omega) with rfl | rfl
  · unfold cntB
    rw [updZ_s, updZ_n (by decide), if_neg (by omega), if_pos h]
    omega
  · unfold cntB
    rw [updZ_n (by decide), updZ_s, if_neg (show ¬ v = -1 by omega), if_pos h]
theorem Rch_nil {x : Int → Int} {n p : Int} {d : Int} {out : List (Int × Int)} {cl : Int} {bg cs : Int → Int} (hp : 0 ≤ p ∧ p ≤ n) : Rch x n p [] d out cl bg cs (true, (p, [], d, out, cl, bg, cs)) := ⟨1, hp, rfl⟩
theorem rows_run {x : Int → Int} {n : Int} (hn : 0 ≤ n ∧ n ≤ 300) : ∀ (k : Nat) (p : Int) (out : List (Int × Int)) (cl : Int) (bg cs : Int → Int), cntB bg < k → (0 ≤ p ∧ p ≤ n) → (0 ≤ cl ∧ cl ≤ 1) → Bd bg 2 (-1) 300 → (out.length : Int) ≤ p → out.length < 300 →
    ∃ r : Bool × PS, Rch x n p [0] 0 out cl bg cs r ∧ r.1 = (rwS x n k p out cl bg cs).1 ∧ r.2.1 = (rwS x n k p out cl bg cs).2.1 ∧ ((rwS x n k p out cl bg cs).1 = true → r.2 = ((rwS x n k p out cl bg cs).2.1, [], 0, (rwS x n k p out cl bg cs).2.2.1, (rwS x n k p out cl bg cs).2.2.2.1, (rwS x n k p out cl bg cs).2.2.2.2.1, (rwS x n k p out cl bg cs).2.2.2.2.2))
  | 0, _, _, _, _, _, h, _, _, _, _, _ => absurd h (Nat.not_lt_zero _)
  | k + 1, p, out, cl, bg, cs, hk, hp, hcl, hbg, ho, hl => by
    have hT := tT_bd x hp.2
    have hF := tF_bd x hp.2
    have hok : okS n p [] 0 out cl bg := ⟨hp, by simp, by decide, hl, hcl, hbg⟩
    by_cases c0 : tK x n p = 0
    · rw [rwS_0 k out cl bg cs c0]
      exact ⟨_, Rch_step hok (by decide) (by rw [stepS_0, if_pos c0]) (Rch_nil hp), rfl, rfl, fun _ => rfl⟩
    by_cases c1 : tK x n p = 2 ∧ (0 ≤ tV x n p ∧ tV x n p ≤ 1) ∧ bg (tV x n p) = -1
    · have h1 := (PRok_tk (x := x) hp.2 c0 (PRok_at hT.2.1)).2
      have hbg' : Bd (updZ bg (tV x n p) out.length) 2 (-1) 300 := hbg.upd (by omega)
      have hs0 : stepS x n 0 p [] 0 out cl bg cs = some (tT x n p, 6 :: 159 :: 13 :: 0 :: [], 0, out, tV x n p, updZ bg (tV x n p) out.length, cs) := by rw [stepS_0, if_neg c0, if_pos c1]
      obtain ⟨a, ha⟩ : ∃ a, ps x n 3000 6 0 (tT x n p) = a := ⟨_, rfl⟩
      have b1 := ps_ok x n 3000 6 0 (tT x n p) hT.2.1
      have hg := run_ps (x := x) (cs := cs) hn c1.2.1 hbg' 3000 6 0 (tT x n p) (159 :: 13 :: 0 :: []) out 1 (Nat.le_refl _) (by omega) hT.2.1 (by decide) (by decide) (by show 8 * (n - tT x n p) + 6 < ((3000 : Nat) : Int); omega) (by decide)
      rw [ha] at b1 hg
      by_cases c2 : a.1 = true
      · have hln : (((out ++ a.2.2).length : Nat) : Int) + 1 ≤ a.2.1 := by have := b1.2 c2; rw [List.length_append]; omega
        have hok2 : okS n a.2.1 (13 :: 0 :: []) 0 (out ++ a.2.2) (tV x n p) (updZ bg (tV x n p) out.length) := ⟨by have := b1.1; omega, by simp, by decide, by have := b1.1; omega, c1.2.1, hbg'⟩
        by_cases c3 : tK x n a.2.1 = 3 ∧ tV x n a.2.1 = 59
        · have hT2 := tT_bd x b1.1.2
          have h2 := (PRok_tk (x := x) b1.1.2 (show tK x n a.2.1 ≠ 0 by omega) (PRok_at hT2.2.1)).2
          rw [rwS_go k out cl bg cs ha c1 ⟨c2, c3⟩]
          obtain ⟨r, hr, e⟩ := rows_run hn k (tT x n a.2.1) (out ++ a.2.2) (tV x n p) (updZ bg (tV x n p) out.length) (updZ cs (tV x n p) (out ++ a.2.2).length) (by have := cntB_upd (v := out.length) c1.2.1 c1.2.2 (by omega); omega) (by have := b1.1; omega) c1.2.1 hbg' (by omega) (by have := b1.1; omega)
          refine ⟨r, Rch_step hok (by decide) hs0 (hg.1 c2 r (Rch_step hok2 (by decide) (q := (tT x n a.2.1, 13 :: 0 :: [], 0, out ++ a.2.2, tV x n p, updZ bg (tV x n p) out.length, cs)) (by rw [stepS_G (s := 159) (h := by decide), show (159 : Int) - 100 = 59 from rfl, if_pos c3]) (Rch_step (q := (tT x n a.2.1, 0 :: [], 0, out ++ a.2.2, tV x n p, updZ bg (tV x n p) out.length, updZ cs (tV x n p) (out ++ a.2.2).length)) ⟨by show 0 ≤ tT x n a.2.1 ∧ tT x n a.2.1 ≤ n; have := b1.1; omega, by simp, by show (0 : Int) ≤ 0 ∧ (0 : Int) ≤ 8; decide, by show (out ++ a.2.2).length < 300; have := b1.1; omega, c1.2.1, hbg'⟩ (by decide) (stepS_X (s := 13) (h := by decide) ..) hr))), e⟩
        · rw [rwS_bad k out cl bg cs ha c1 (fun q => c3 q.2)]
          exact ⟨_, Rch_step hok (by decide) hs0 (hg.1 c2 _ (Rch_fail hok2 (by decide) (by rw [stepS_G (s := 159) (h := by decide), show (159 : Int) - 100 = 59 from rfl, if_neg c3]))), rfl, rfl, fun q => by cases q⟩
      · rw [rwS_bad k out cl bg cs ha c1 (fun q => c2 q.1)]
        obtain ⟨z, e, hz⟩ := hg.2 (by simpa using c2)
        exact ⟨_, Rch_step hok (by decide) hs0 hz, rfl, e, fun q => by cases q⟩
    · rw [rwS_no k out cl bg cs c0 c1]
      exact ⟨_, Rch_fail hok (by decide) (by rw [stepS_0, if_neg c0, if_neg c1]), rfl, rfl, fun q => by cases q⟩
/-- marks in a row, that can be worked out from kinds tp and height top on, to an end K -/
def okL : List (Int × Int) → (Int → Int) → Int → ((Int → Int) → Int → Prop) → Prop
  | [], tp, top, K => K tp top
  | e :: r, tp, top, K =>
    (e.1 = 0 ∧ (0 ≤ top ∧ top < 40) ∧ (0 ≤ e.2 ∧ e.2 ≤ 9999) ∧ okL r (updZ tp top 0) (top + 1) K) ∨
    (e.1 = 1 ∧ (0 ≤ top ∧ top < 40) ∧ (0 ≤ e.2 ∧ e.2 ≤ 6) ∧ okL r (updZ tp top 0) (top + 1) K) ∨
    ((2 ≤ e.1 ∧ e.1 ≤ 5) ∧ (2 ≤ top ∧ top ≤ 40) ∧ (tp (top - 2) = 0 ∧ tp (top - 1) = 0) ∧ okL r (updZ tp (top - 2) 0) (top - 1) K) ∨
    ((6 ≤ e.1 ∧ e.1 ≤ 8) ∧ (2 ≤ top ∧ top ≤ 40) ∧ (tp (top - 2) = 0 ∧ tp (top - 1) = 0) ∧ okL r (updZ tp (top - 2) 1) (top - 1) K) ∨
    ((9 ≤ e.1 ∧ e.1 ≤ 10) ∧ (2 ≤ top ∧ top ≤ 40) ∧ (tp (top - 2) = 1 ∧ tp (top - 1) = 1) ∧ okL r (updZ tp (top - 2) 1) (top - 1) K) ∨
    (e.1 = 11 ∧ (1 ≤ top ∧ top ≤ 40) ∧ tp (top - 1) = 1 ∧ okL r tp top K)
theorem okL_app {K : (Int → Int) → Int → Prop} {r : List (Int × Int)} : ∀ (l : List (Int × Int)) (tp : Int → Int) (top : Int), okL l tp top (fun tp1 top1 => okL r tp1 top1 K) → okL (l ++ r) tp top K
  | [], _, _, h => h
  | e :: l, tp, top, h => by
    rcases h with ⟨h1, h2, h3, h4⟩ | ⟨h1, h2, h3, h4⟩ | ⟨h1, h2, h3, h4⟩ | ⟨h1, h2, h3, h4⟩ | ⟨h1, h2, h3, h4⟩ | ⟨h1, h2, h3, h4⟩
    · exact Or.inl ⟨h1, h2, h3, okL_app l _ _ h4⟩
    · exact Or.inr (Or.inl ⟨h1, h2, h3, okL_app l _ _ h4⟩)
    · exact Or.inr (Or.inr (Or.inl ⟨h1, h2, h3, okL_app l _ _ h4⟩))
    · exact Or.inr (Or.inr (Or.inr (Or.inl ⟨h1, h2, h3, okL_app l _ _ h4⟩)))
    · exact Or.inr (Or.inr (Or.inr (Or.inr (Or.inl ⟨h1, h2, h3, okL_app l _ _ h4⟩))))
    · exact Or.inr (Or.inr (Or.inr (Or.inr (Or.inr ⟨h1, h2, h3, okL_app l _ _ h4⟩))))
theorem okM_of {dd ww : Int → Int} : ∀ (l : List (Int × Int)) (k : Int) (tp : Int → Int) (top : Int), (∀ i : Nat, i < l.length → dd (k + i) = (l.getD i (0, 0)).1 ∧ ww (k + i) = (l.getD i (0, 0)).2) → okL l tp top (fun tp1 top1 => top1 = 1 ∧ tp1 0 = 1) → okM dd ww l.length k tp top
  | [], _, _, _, _, h => h
  | e :: l, k, tp, top, hl, h => by
    have h0 := hl 0 (by simp)
    have e1 : dd k = e.1 := by have := h0.1; simpa using this
    have e2 : ww k = e.2 := by have := h0.2; simpa using this
    have hn : ∀ i : Nat, i < l.length → dd (k + 1 + i) = (l.getD i (0, 0)).1 ∧ ww (k + 1 + i) = (l.getD i (0, 0)).2 := by
      intro i hi
      have := hl (i + 1) (by rw [List.length_cons]; omega)
      rw [show k + ((i + 1 : Nat) : Int) = k + 1 + i by omega] at this
      simpa using this
    show (dd k = 0 ∧ _) ∨ _
    rcases h with ⟨h1, h2, h3, h4⟩ | ⟨h1, h2, h3, h4⟩ | ⟨h1, h2, h3, h4⟩ | ⟨h1, h2, h3, h4⟩ | ⟨h1, h2, h3, h4⟩ | ⟨h1, h2, h3, h4⟩
    · exact Or.inl ⟨by rw [e1]; exact h1, h2, by rw [e2]; exact h3, okM_of l _ _ _ hn h4⟩
    · exact Or.inr (Or.inl ⟨by rw [e1]; exact h1, h2, by rw [e2]; exact h3, okM_of l _ _ _ hn h4⟩)
    · exact Or.inr (Or.inr (Or.inl ⟨by rw [e1]; exact h1, h2, h3, okM_of l _ _ _ hn h4⟩))
    · exact Or.inr (Or.inr (Or.inr (Or.inl ⟨by rw [e1]; exact h1, h2, h3, okM_of l _ _ _ hn h4⟩)))
    · exact Or.inr (Or.inr (Or.inr (Or.inr (Or.inl ⟨by rw [e1]; exact h1, h2, h3, okM_of l _ _ _ hn h4⟩))))
    · exact Or.inr (Or.inr (Or.inr (Or.inr (Or.inr ⟨by rw [e1]; exact h1, h2, h3, okM_of l _ _ _ hn h4⟩))))
/-- what is said makes one more, of kind kd, on top -/
def mk1 (kd : Int) (l : List (Int × Int)) (mx : Int) : Prop := ∀ (tp : Int → Int) (top : Int) (K : (Int → Int) → Int → Prop), 0 ≤ top → top + mx ≤ 40 → (∀ tp1 : Int → Int, (∀ i, 0 ≤ i → i < top → tp1 i = tp i) → tp1 top = kd → K tp1 (top + 1)) → okL l tp top K
/-- what is said turns the topmost, of kind k0, into one of kind kd -/
def mk0 (k0 kd : Int) (l : List (Int × Int)) (mx : Int) : Prop := ∀ (tp : Int → Int) (top : Int) (K : (Int → Int) → Int → Prop), 1 ≤ top → top + mx ≤ 40 → tp (top - 1) = k0 → (∀ tp1 : Int → Int, (∀ i, 0 ≤ i → i < top - 1 → tp1 i = tp i) → tp1 (top - 1) = kd → K tp1 top) → okL l tp top K
theorem mk1_seq {k0 kd m1 m2 mx : Int} {a b : List (Int × Int)} (h1 : mk1 k0 a m1) (h2 : mk0 k0 kd b m2) (e1 : m1 ≤ mx) (e2 : m2 + 1 ≤ mx) : mk1 kd (a ++ b) mx := by
  intro tp top K h0 hm hK
  refine okL_app a tp top (h1 tp top _ h0 (by omega) (fun tp1 q1 q2 => ?_))
  refine h2 tp1 (top + 1) K (by omega) (by omega) (by rw [show top + 1 - 1 = top by omega]; exact q2) (fun tp2 r1 r2 => hK tp2 (fun i i0 i1 => ?_) (by rw [show top + 1 - 1 = top by omega] at r2; exact r2))
  rw [r1 i i0 (by omega), q1 i i0 i1]
theorem mk0_nil (k : Int) {mx : Int} : mk0 k k [] mx := fun tp _ _ _ _ ht hK => hK tp (fun _ _ _ => rfl) ht
/-- an operand and its sign, and the rest -/
theorem mk0_op {k0 kd m1 m2 mx : Int} {a b : List (Int × Int)} {e : Int × Int} (h1 : mk1 k0 a m1) (h2 : mk0 kd kd b m2) (e1 : m1 ≤ mx) (e2 : m2 ≤ mx) (hmx : 1 ≤ mx)
    (he : ((2 ≤ e.1 ∧ e.1 ≤ 5) ∧ k0 = 0 ∧ kd = 0) ∨ ((6 ≤ e.1 ∧ e.1 ≤ 8) ∧ k0 = 0 ∧ kd = 1) ∨ ((9 ≤ e.1 ∧ e.1 ≤ 10) ∧ k0 = 1 ∧ kd = 1)) : mk0 k0 kd ((a ++ [e]) ++ b) mx := by
  intro tp top K h0 hm ht hK
  refine okL_app (a ++ [e]) tp top (okL_app a tp top (h1 tp top _ (by omega) (by omega) (fun tp1 q1 q2 => ?_)))
  have ht1 : tp1 (top - 1) = k0 := by rw [q1 (top - 1) (by omega) (by omega)]; exact ht
  have fin : okL b (updZ tp1 (top + 1 - 2) kd) (top + 1 - 1) K := by
    rw [show top + 1 - 2 = top - 1 by omega, show top + 1 - 1 = top by omega]
    refine h2 _ top K h0 (by omega) updZ_s (fun tp2 r1 r2 => hK tp2 (fun i i0 i1 => ?_) r2)
    rw [r1 i i0 i1, updZ_n (by omega), q1 i i0 (by omega)]
  have f1 : tp1 (top + 1 - 2) = k0 := by rw [show top + 1 - 2 = top - 1 by omega]; exact ht1
  have f2 : tp1 (top + 1 - 1) = k0 := by rw [show top + 1 - 1 = top by omega]; exact q2
  rcases he with ⟨g1, rfl, rfl⟩ | ⟨g1, rfl, rfl⟩ | ⟨g1, rfl, rfl⟩
  · exact Or.inr (Or.inr (Or.inl ⟨g1, by omega, ⟨f1, f2⟩, fin⟩))
  · exact Or.inr (Or.inr (Or.inr (Or.inl ⟨g1, by omega, ⟨f1, f2⟩, fin⟩)))
  · exact Or.inr (Or.inr (Or.inr (Or.inr (Or.inl ⟨g1, by omega, ⟨f1, f2⟩, fin⟩))))
theorem mk1_not {m mx : Int} {a : List (Int × Int)} (h1 : mk1 1 a m) (e1 : m ≤ mx) (hmx : 1 ≤ mx) : mk1 1 (a ++ [(11, 0)]) mx := by
  intro tp top K h0 hm hK
  refine okL_app a tp top (h1 tp top _ h0 (by omega) (fun tp1 q1 q2 => ?_))
  exact Or.inr (Or.inr (Or.inr (Or.inr (Or.inr ⟨rfl, by omega, by rw [show top + 1 - 1 = top by omega]; exact q2, hK tp1 q1 q2⟩))))
theorem mk1_up {k m mx : Int} {a : List (Int × Int)} (h : mk1 k a m) (e : m ≤ mx) : mk1 k a mx := fun tp top K h0 hm hK => h tp top K h0 (by omega) hK
theorem mk1_num {b : Int} (hb : 0 ≤ b ∧ b ≤ 9999) : mk1 0 [(0, b)] 1 := fun tp top K h0 hm hK => Or.inl ⟨rfl, by omega, hb, hK _ (fun i _ hi => updZ_n (by omega)) updZ_s⟩
theorem mk1_nam {b : Int} (hb : 0 ≤ b ∧ b ≤ 6) : mk1 0 [(1, b)] 1 := fun tp top K h0 hm hK => Or.inr (Or.inl ⟨rfl, by omega, hb, hK _ (fun i _ hi => updZ_n (by omega)) updZ_s⟩)
theorem sq_t {a : PR} {k : Int → PR} (h : (sq a k).1 = true) : a.1 = true ∧ (k a.2.1).1 = true ∧ (sq a k).2.2 = a.2.2 ++ (k a.2.1).2.2 := by
  unfold sq at h ⊢
  by_cases c : a.1 = true
  · rw [if_pos c] at h ⊢
    exact ⟨c, h, rfl⟩
  · rw [if_neg c] at h
    exact absurd h c
/-- what kind each gives, how high it needs -/
theorem ps_ty (x : Int → Int) (n : Int) : ∀ (f : Nat) (s d p : Int), d ≤ 8 → (ps x n f s d p).1 = true →
    (s = 1 → mk1 0 (ps x n f s d p).2.2 (3 + 2 * (8 - d))) ∧ (s = 2 → mk0 0 0 (ps x n f s d p).2.2 (2 + 2 * (8 - d))) ∧ (s = 3 → mk1 0 (ps x n f s d p).2.2 (2 + 2 * (8 - d))) ∧ (s = 4 → mk0 0 0 (ps x n f s d p).2.2 (1 + 2 * (8 - d))) ∧ (s = 5 → mk1 0 (ps x n f s d p).2.2 (1 + 2 * (8 - d))) ∧
    (s = 6 → mk1 1 (ps x n f s d p).2.2 (6 + 2 * (8 - d))) ∧ (s = 7 → mk0 1 1 (ps x n f s d p).2.2 (5 + 2 * (8 - d))) ∧ (s = 8 → mk1 1 (ps x n f s d p).2.2 (5 + 2 * (8 - d))) ∧ (s = 9 → mk0 1 1 (ps x n f s d p).2.2 (4 + 2 * (8 - d))) ∧ (s = 10 → mk1 1 (ps x n f s d p).2.2 (4 + 2 * (8 - d))) ∧ (s = 11 → mk0 0 1 (ps x n f s d p).2.2 (3 + 2 * (8 - d)))
  | 0, _, _, _, _, h => by cases h
  | f + 1, s, d, p, hd, h => by
    have ih := ps_ty x n f
    refine ⟨?_, ?_, ?_, ?_, ?_, ?_, ?_, ?_, ?_, ?_, ?_⟩
    · intro hs
      subst hs
      rw [ps_1] at h ⊢
      obtain ⟨h1, h2, h3⟩ := sq_t h
      rw [h3]
      exact mk1_seq ((ih 3 d _ hd h1).2.2.1 rfl) ((ih 2 d _ hd h2).2.1 rfl) (by omega) (by omega)
    · intro hs
      subst hs
      rw [ps_2] at h ⊢
      split at h
      · rename_i c
        rw [if_pos c]
        obtain ⟨h1, h2, h3⟩ := sq_t h
        obtain ⟨h4, -, h5⟩ := sq_t h1
        rw [h3, h5]
        exact mk0_op ((ih 3 d _ hd h4).2.2.1 rfl) ((ih 2 d _ hd h2).2.1 rfl) (by omega) (by omega) (by omega) (by first | exact Or.inl ⟨by split <;> decide, rfl, rfl⟩)
      · rename_i c
        rw [if_neg c]
        exact mk0_nil _
    · intro hs
      subst hs
      rw [ps_3] at h ⊢
      obtain ⟨h1, h2, h3⟩ := sq_t h
      rw [h3]
      exact mk1_seq ((ih 5 d _ hd h1).2.2.2.2.1 rfl) ((ih 4 d _ hd h2).2.2.2.1 rfl) (by omega) (by omega)
    · intro hs
      subst hs
      rw [ps_4] at h ⊢
      split at h
      · rename_i c
        rw [if_pos c]
        obtain ⟨h1, h2, h3⟩ := sq_t h
        obtain ⟨h4, -, h5⟩ := sq_t h1
        rw [h3, h5]
        exact mk0_op ((ih 5 d _ hd h4).2.2.2.2.1 rfl) ((ih 4 d _ hd h2).2.2.2.1 rfl) (by omega) (by omega) (by omega) (by first | exact Or.inl ⟨by split <;> decide, rfl, rfl⟩)
      · rename_i c
        rw [if_neg c]
        exact mk0_nil _
    · intro hs
      subst hs
      rw [ps_5] at h ⊢
      split at h
      · rename_i c
        rw [if_pos c]
        split at h
        · cases h
        · rename_i c2
          rw [if_neg c2]
          have hv : 0 ≤ tV x n p := by
            unfold tV
            rw [if_neg (by omega), if_pos c]
            exact (num_rel x (tF x n p) _ (t_dig c)).1.1
          exact mk1_up (mk1_num (by omega)) (by omega)
      · rename_i c
        rw [if_neg c]
        split at h
        · rename_i c2
          rw [if_pos c2]
          exact mk1_up (mk1_nam (by omega)) (by omega)
        · rename_i c2
          rw [if_neg c2]
          split at h
          · rename_i c3
            rw [if_pos c3]
            obtain ⟨h1, h2, h3⟩ := sq_t h
            split at h2
            · rename_i c4
              rw [h3, if_pos c4]
              show mk1 0 (_ ++ []) _
              rw [List.append_nil]
              exact mk1_up ((ih 1 (d + 1) _ (by omega) h1).1 rfl) (by omega)
            · cases h2
          · cases h
    · intro hs
      subst hs
      rw [ps_6] at h ⊢
      obtain ⟨h1, h2, h3⟩ := sq_t h
      rw [h3]
      exact mk1_seq ((ih 8 d _ hd h1).2.2.2.2.2.2.2.1 rfl) ((ih 7 d _ hd h2).2.2.2.2.2.2.1 rfl) (by omega) (by omega)
    · intro hs
      subst hs
      rw [ps_7] at h ⊢
      split at h
      · rename_i c
        rw [if_pos c]
        obtain ⟨h1, h2, h3⟩ := sq_t h
        obtain ⟨h4, -, h5⟩ := sq_t h1
        rw [h3, h5]
        exact mk0_op ((ih 8 d _ hd h4).2.2.2.2.2.2.2.1 rfl) ((ih 7 d _ hd h2).2.2.2.2.2.2.1 rfl) (by omega) (by omega) (by omega) (by exact Or.inr (Or.inr ⟨by decide, rfl, rfl⟩))
      · rename_i c
        rw [if_neg c]
        exact mk0_nil _
    · intro hs
      subst hs
      rw [ps_8] at h ⊢
      obtain ⟨h1, h2, h3⟩ := sq_t h
      rw [h3]
      exact mk1_seq ((ih 10 d _ hd h1).2.2.2.2.2.2.2.2.2.1 rfl) ((ih 9 d _ hd h2).2.2.2.2.2.2.2.2.1 rfl) (by omega) (by omega)
    · intro hs
      subst hs
      rw [ps_9] at h ⊢
      split at h
      · rename_i c
        rw [if_pos c]
        obtain ⟨h1, h2, h3⟩ := sq_t h
        obtain ⟨h4, -, h5⟩ := sq_t h1
        rw [h3, h5]
        exact mk0_op ((ih 10 d _ hd h4).2.2.2.2.2.2.2.2.2.1 rfl) ((ih 9 d _ hd h2).2.2.2.2.2.2.2.2.1 rfl) (by omega) (by omega) (by omega) (by exact Or.inr (Or.inr ⟨by decide, rfl, rfl⟩))
      · rename_i c
        rw [if_neg c]
        exact mk0_nil _
    · intro hs
      subst hs
      rw [ps_10] at h ⊢
      split at h
      · rename_i c
        rw [if_pos c]
        split at h
        · cases h
        · rename_i c2
          rw [if_neg c2]
          obtain ⟨h1, -, h3⟩ := sq_t h
          rw [h3]
          exact mk1_not ((ih 10 (d + 1) _ (by omega) h1).2.2.2.2.2.2.2.2.2.1 rfl) (by omega) (by omega)
      · rename_i c
        rw [if_neg c]
        split at h
        · rename_i c2
          rw [if_pos c2]
          split at h
          · cases h
          · rename_i c3
            rw [if_neg c3]
            obtain ⟨h1, h2, h3⟩ := sq_t h
            split at h2
            · rename_i c4
              rw [h3, if_pos c4]
              show mk1 1 (_ ++ []) _
              rw [List.append_nil]
              exact mk1_up ((ih 6 (d + 1) _ (by omega) h1).2.2.2.2.2.1 rfl) (by omega)
            · cases h2
        · rename_i c2
          rw [if_neg c2]
          obtain ⟨h1, h2, h3⟩ := sq_t h
          rw [h3]
          exact mk1_seq ((ih 1 d _ hd h1).1 rfl) ((ih 11 d _ hd h2).2.2.2.2.2.2.2.2.2.2 rfl) (by omega) (by omega)
    · intro hs
      subst hs
      rw [ps_11] at h ⊢
      split at h
      · rename_i c
        rw [if_pos c]
        obtain ⟨h1, -, h3⟩ := sq_t h
        rw [h3]
        have := mk0_op (kd := 1) (b := []) (e := (if tV x n p = 60 then 6 else if tV x n p = 62 then 7 else 8, 0)) ((ih 1 d _ hd h1).1 rfl) (mk0_nil 1 (mx := 0)) (mx := 3 + 2 * (8 - d)) (by omega) (by omega) (by omega) (Or.inr (Or.inl ⟨by (repeat' split) <;> decide, rfl, rfl⟩))
        rw [List.append_nil] at this
        exact this
      · cases h
