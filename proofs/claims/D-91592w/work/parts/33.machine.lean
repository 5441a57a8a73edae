/-! PLAIN WORDS: the Model's machine does what the descent says -/
set_option maxRecDepth 100000
/-- it comes to r -/
def Rch (x : Int → Int) (n p : Int) (stk : List Int) (d : Int) (out : List (Int × Int)) (cl : Int) (bg cs : Int → Int) (r : Bool × PS) : Prop := ∃ M, goodX x n M p stk d out cl bg cs ∧ exec x n M p stk d out cl bg cs = some r
theorem Rch_step {x : Int → Int} {n s p : Int} {stk : List Int} {d : Int} {out : List (Int × Int)} {cl : Int} {bg cs : Int → Int} {q : PS} {r : Bool × PS} (hok : okS n p stk d out cl bg) (hs : 0 ≤ s ∧ s ≤ 2000) (h : stepS x n s p stk d out cl bg cs = some q) (hr : Rch x n q.1 q.2.1 q.2.2.1 q.2.2.2.1 q.2.2.2.2.1 q.2.2.2.2.2.1 q.2.2.2.2.2.2 r) : Rch x n p (s :: stk) d out cl bg cs r := by
  obtain ⟨M, h1, h2⟩ := hr
  refine ⟨M + 1, ⟨hok, hs, ?_⟩, ?_⟩
  · rw [h]; exact h1
  · rw [exec_c, h]; exact h2
theorem Rch_fail {x : Int → Int} {n s p : Int} {stk : List Int} {d : Int} {out : List (Int × Int)} {cl : Int} {bg cs : Int → Int} (hok : okS n p stk d out cl bg) (hs : 0 ≤ s ∧ s ≤ 2000) (h : stepS x n s p stk d out cl bg cs = none) : Rch x n p (s :: stk) d out cl bg cs (false, (p, stk, d, out, cl, bg, cs)) := by
  refine ⟨1, ⟨hok, hs, ?_⟩, ?_⟩
  · rw [h]; trivial
  · rw [exec_c, h]
section GO
variable (x : Int → Int) (n cl : Int) (bg cs : Int → Int)
/-- from stk0 at depth d0 it does what a says, and goes on with stk at depth d -/
def Go (p : Int) (out : List (Int × Int)) (stk0 : List Int) (d0 : Int) (stk : List Int) (d : Int) (a : PR) : Prop :=
  (a.1 = true → ∀ r, Rch x n a.2.1 stk d (out ++ a.2.2) cl bg cs r → Rch x n p stk0 d0 out cl bg cs r) ∧ (a.1 = false → ∃ q : PS, q.1 = a.2.1 ∧ Rch x n p stk0 d0 out cl bg cs (false, q))
variable {x n cl bg cs}
theorem Go_seq {p : Int} {out : List (Int × Int)} {s0 s1 s2 : List Int} {d0 d1 d2 : Int} {a : PR} {k : Int → PR} (h1 : Go x n cl bg cs p out s0 d0 s1 d1 a) (h2 : a.1 = true → Go x n cl bg cs a.2.1 (out ++ a.2.2) s1 d1 s2 d2 (k a.2.1)) : Go x n cl bg cs p out s0 d0 s2 d2 (sq a k) := by
  unfold sq
  by_cases c : a.1 = true
  · rw [if_pos c]
    refine ⟨fun q r hr => h1.1 c r ((h2 c).1 q r ?_), fun q => ?_⟩
    · rw [List.append_assoc]; exact hr
    · obtain ⟨z, e, hz⟩ := (h2 c).2 q
      exact ⟨z, e, h1.1 c _ hz⟩
  · rw [if_neg c]
    exact ⟨fun q => absurd q c, fun q => h1.2 q⟩
theorem Go_step {s p p1 : Int} {stk s1 s2 : List Int} {d d1 d2 : Int} {out : List (Int × Int)} {a : PR} (hok : okS n p stk d out cl bg) (hs : 0 ≤ s ∧ s ≤ 2000) (h : stepS x n s p stk d out cl bg cs = some (p1, s1, d1, out, cl, bg, cs)) (hg : Go x n cl bg cs p1 out s1 d1 s2 d2 a) : Go x n cl bg cs p out (s :: stk) d s2 d2 a :=
  ⟨fun q r hr => Rch_step hok hs h (hg.1 q r hr), fun q => by obtain ⟨z, e, hz⟩ := hg.2 q; exact ⟨z, e, Rch_step hok hs h hz⟩⟩
theorem Go_no {s p : Int} {stk s2 : List Int} {d d2 : Int} {out : List (Int × Int)} (hok : okS n p stk d out cl bg) (hs : 0 ≤ s ∧ s ≤ 2000) (h : stepS x n s p stk d out cl bg cs = none) : Go x n cl bg cs p out (s :: stk) d s2 d2 (false, p, []) :=
  ⟨fun q => (by cases q), fun _ => ⟨_, rfl, Rch_fail hok hs h⟩⟩
theorem Go_at {p : Int} {stk : List Int} {d : Int} {out : List (Int × Int)} : Go x n cl bg cs p out stk d stk d (true, p, []) := ⟨fun _ r hr => by rw [List.append_nil] at hr; exact hr, fun q => by cases q⟩
theorem Go_em {e p : Int} {stk : List Int} {d : Int} {out : List (Int × Int)} (he : 0 ≤ e ∧ e ≤ 1000) (hok : okS n p stk d out cl bg) : Go x n cl bg cs p out ((1000 + e) :: stk) d stk d (true, p, [(e, 0)]) :=
  ⟨fun _ r hr => Rch_step hok (by omega) (stepS_D (h := by omega) ..) (by rw [show 1000 + e - 1000 = e by omega]; exact hr), fun q => by cases q⟩
theorem Go_one {s p p1 : Int} {stk : List Int} {d : Int} {out : List (Int × Int)} {e : Int × Int} (hok : okS n p stk d out cl bg) (hs : 0 ≤ s ∧ s ≤ 2000) (h : stepS x n s p stk d out cl bg cs = some (p1, stk, d, out ++ [e], cl, bg, cs)) : Go x n cl bg cs p out (s :: stk) d stk d (true, p1, [e]) :=
  ⟨fun _ r hr => Rch_step hok hs h hr, fun q => by cases q⟩
theorem Go_sg {k p : Int} {stk : List Int} {d : Int} {out : List (Int × Int)} (hk : 0 ≤ k ∧ k < 900) (hok : okS n p stk d out cl bg) : Go x n cl bg cs p out ((100 + k) :: stk) d stk d (if tK x n p = 3 ∧ tV x n p = k then (true, tT x n p, []) else (false, p, [])) := by
  have e := stepS_G (s := 100 + k) x n p stk d out cl bg cs (h := by omega)
  rw [show 100 + k - 100 = k by omega] at e
  split
  · rename_i c
    rw [if_pos c] at e
    exact Go_step hok (by omega) e Go_at
  · rename_i c
    rw [if_neg c] at e
    exact Go_no hok (by omega) e
theorem Go_up {p : Int} {stk : List Int} {d : Int} {out : List (Int × Int)} (hok : okS n p stk (d + 1) out cl bg) : Go x n cl bg cs p out (12 :: stk) (d + 1) stk d (true, p, []) :=
  Go_step hok (by decide) (by rw [stepS_12, show d + 1 - 1 = d by omega]) Go_at
theorem sq_pl (a : PR) (e : Int × Int) : (sq a (fun p1 => (true, p1, [e]))).2.1 = a.2.1 := by
  unfold sq
  split <;> rfl
theorem sq_at (a : PR) : sq a (fun p1 => (true, p1, [])) = a := by
  unfold sq
  split
  · rename_i c
    rw [List.append_nil]
    exact Prod.ext c.symm rfl
  · rfl
theorem Go_down {p : Int} {out : List (Int × Int)} {s0 stk : List Int} {d0 d : Int} {a : PR} (h : Go x n cl bg cs p out s0 d0 (12 :: stk) (d + 1) a) (hok : a.1 = true → okS n a.2.1 stk (d + 1) (out ++ a.2.2) cl bg) : Go x n cl bg cs p out s0 d0 stk d a := by
  have := Go_seq h (k := fun p1 => (true, p1, [])) (fun q => Go_up (hok q))
  rw [sq_at] at this
  exact this
end GO
section RUN
variable {x : Int → Int} {n cl : Int} {bg cs : Int → Int}
set_option maxHeartbeats 2000000 in
theorem run_ps (hn : 0 ≤ n ∧ n ≤ 300) (hcl : 0 ≤ cl ∧ cl ≤ 1) (hbg : Bd bg 2 (-1) 300) : ∀ (f : Nat) (s d p : Int) (stk : List Int) (out : List (Int × Int)) (q : Nat), 1 ≤ q → (out.length : Int) + q ≤ p → p ≤ n → (0 ≤ d ∧ d ≤ 8) → (1 ≤ s ∧ s ≤ 11) →
    8 * (n - p) + (if s = 6 then 6 else if s = 8 then 5 else if s = 10 then 4 else if s = 1 then 3 else if s = 3 then 2 else if s = 5 then 1 else 0) < (f : Int) →
    (stk.length : Int) + (if s = 5 then 2 else if s = 4 ∨ s = 3 then 4 else if s = 2 ∨ s = 1 then 6 else if s = 11 ∨ s = 10 then 7 else if s = 9 ∨ s = 8 then 9 else 11) + 24 * (8 - d) ≤ 480 → Go x n cl bg cs p out (s :: stk) d stk d (ps x n f s d p)
  | 0, s, d, p, stk, out, q, _, _, hp, _, _, hf, _ => by
    exfalso
    have : (0 : Int) ≤ (if s = 6 then 6 else if s = 8 then 5 else if s = 10 then 4 else if s = 1 then 3 else if s = 3 then 2 else if s = 5 then 1 else 0) := by (repeat' split) <;> decide
    omega
  | f + 1, s, d, p, stk, out, q, hq, ho, hp, hd, hs, hf, hst => by
    have ih := run_ps hn hcl hbg f
    have hT := tT_bd x hp
    have hF := tF_bd x hp
    have hls : (stk.length : Int) ≤ 480 := by
      have : (0 : Int) ≤ (if s = 5 then 2 else if s = 4 ∨ s = 3 then 4 else if s = 2 ∨ s = 1 then 6 else if s = 11 ∨ s = 10 then 7 else if s = 9 ∨ s = 8 then 9 else 11) := by (repeat' split) <;> decide
      omega
    have hok : okS n p stk d out cl bg := ⟨by omega, by omega, hd, by omega, hcl, hbg⟩
    have okr : ∀ (a : PR) (st : List Int) (d1 : Int), PRok n p a → a.1 = true → st.length ≤ 500 → (0 ≤ d1 ∧ d1 ≤ 8) → okS n a.2.1 st d1 (out ++ a.2.2) cl bg := by
      intro a st d1 ha h1 h2 h3
      have := ha.2 h1
      have := ha.1
      exact ⟨by omega, h2, h3, by rw [List.length_append]; omega, hcl, hbg⟩
    have olen : ∀ (a : PR) (p0 : Int) (k : Nat), PRok n p0 a → a.1 = true → (out.length : Int) + k ≤ p0 → (((out ++ a.2.2).length : Nat) : Int) + k ≤ a.2.1 := by
      intro a p0 k ha h1 h2
      have := ha.2 h1
      rw [List.length_append]
      omega
    rcases (show s = 1 ∨ s = 2 ∨ s = 3 ∨ s = 4 ∨ s = 5 ∨ s = 6 ∨ s = 7 ∨ s = 8 ∨ s = 9 ∨ s = 10 ∨ s = 11 by omega) with rfl | rfl | rfl | rfl | rfl | rfl | rfl | rfl | rfl | rfl | rfl
    · have hf : 8 * (n - p) + 3 < ((f + 1 : Nat) : Int) := hf
      have hst : (stk.length : Int) + 6 + 24 * (8 - d) ≤ 480 := hst
      rw [ps_1]
      have b1 := ps_ok x n f 3 d p hp
      refine Go_step hok (by decide) (stepS_1 ..) (Go_seq (ih 3 d p (2 :: stk) out q hq ho hp hd (by decide) (by show 8 * (n - p) + 2 < _; omega) (by rw [List.length_cons]; show _ + 4 + _ ≤ _; omega)) (fun h => ?_))
      exact ih 2 d _ stk _ q hq (olen _ p q b1 h ho) b1.1.2 hd (by decide) (by show 8 * (n - _) + 0 < _; have := b1.1; omega) (by show _ + 6 + _ ≤ _; omega)
    · have hf : 8 * (n - p) + 0 < ((f + 1 : Nat) : Int) := hf
      have hst : (stk.length : Int) + 6 + 24 * (8 - d) ≤ 480 := hst
      rw [ps_2]
      split
      · rename_i c
        have h1 := (PRok_tk (x := x) hp (show tK x n p ≠ 0 by omega) (PRok_at hT.2.1)).2
        have b1 := ps_ok x n f 3 d _ hT.2.1
        have b2 := PRok_em (x := x) hp (show tK x n p ≠ 0 by omega) b1 (if tV x n p = 43 then 2 else 3, 0)
        refine Go_step hok (by decide) (by rw [stepS_2, if_pos c]) (Go_seq (Go_seq (ih 3 d _ (_ :: 2 :: stk) out (q + 1) (by omega) (by omega) hT.2.1 hd (by decide) (by show 8 * (n - _) + 2 < _; omega) (by rw [List.length_cons, List.length_cons]; show _ + 4 + _ ≤ _; omega)) (fun h => Go_em (by split <;> decide) ?_)) (fun h => ?_))
        · have := olen _ _ (q + 1) b1 h (by omega)
          exact ⟨by have := b1.1; omega, by rw [List.length_cons]; omega, hd, by have := b1.1; omega, hcl, hbg⟩
        · exact ih 2 d _ stk _ q hq (olen _ p q b2 h ho) b2.1.2 hd (by decide) (by show 8 * (n - _) + 0 < _; rw [sq_pl]; have := b1.1; omega) (by show _ + 6 + _ ≤ _; omega)
      · rename_i c
        exact Go_step hok (by decide) (by rw [stepS_2, if_neg c]) Go_at
    · have hf : 8 * (n - p) + 2 < ((f + 1 : Nat) : Int) := hf
      have hst : (stk.length : Int) + 4 + 24 * (8 - d) ≤ 480 := hst
      rw [ps_3]
      have b1 := ps_ok x n f 5 d p hp
      refine Go_step hok (by decide) (stepS_3 ..) (Go_seq (ih 5 d p (4 :: stk) out q hq ho hp hd (by decide) (by show 8 * (n - p) + 1 < _; omega) (by rw [List.length_cons]; show _ + 2 + _ ≤ _; omega)) (fun h => ?_))
      exact ih 4 d _ stk _ q hq (olen _ p q b1 h ho) b1.1.2 hd (by decide) (by show 8 * (n - _) + 0 < _; have := b1.1; omega) (by show _ + 4 + _ ≤ _; omega)
    · have hf : 8 * (n - p) + 0 < ((f + 1 : Nat) : Int) := hf
      have hst : (stk.length : Int) + 4 + 24 * (8 - d) ≤ 480 := hst
      rw [ps_4]
      split
      · rename_i c
        have h1 := (PRok_tk (x := x) hp (show tK x n p ≠ 0 by omega) (PRok_at hT.2.1)).2
        have b1 := ps_ok x n f 5 d _ hT.2.1
        have b2 := PRok_em (x := x) hp (show tK x n p ≠ 0 by omega) b1 (if tV x n p = 42 then 4 else 5, 0)
        refine Go_step hok (by decide) (by rw [stepS_4, if_pos c]) (Go_seq (Go_seq (ih 5 d _ (_ :: 4 :: stk) out (q + 1) (by omega) (by omega) hT.2.1 hd (by decide) (by show 8 * (n - _) + 1 < _; omega) (by rw [List.length_cons, List.length_cons]; show _ + 2 + _ ≤ _; omega)) (fun h => Go_em (by split <;> decide) ?_)) (fun h => ?_))
        · have := olen _ _ (q + 1) b1 h (by omega)
          exact ⟨by have := b1.1; omega, by rw [List.length_cons]; omega, hd, by have := b1.1; omega, hcl, hbg⟩
        · exact ih 4 d _ stk _ q hq (olen _ p q b2 h ho) b2.1.2 hd (by decide) (by show 8 * (n - _) + 0 < _; rw [sq_pl]; have := b1.1; omega) (by show _ + 4 + _ ≤ _; omega)
      · rename_i c
        exact Go_step hok (by decide) (by rw [stepS_4, if_neg c]) Go_at
    · have hf : 8 * (n - p) + 1 < ((f + 1 : Nat) : Int) := hf
      have hst : (stk.length : Int) + 2 + 24 * (8 - d) ≤ 480 := hst
      rw [ps_5]
      split
      · rename_i c
        split
        · rename_i c2
          exact Go_no hok (by decide) (by rw [stepS_5, if_pos c, if_pos c2])
        · rename_i c2
          exact Go_one hok (by decide) (by rw [stepS_5, if_pos c, if_neg c2])
      · rename_i c
        split
        · rename_i c2
          exact Go_one hok (by decide) (by rw [stepS_5, if_neg c, if_pos c2])
        · rename_i c2
          split
          · rename_i c3
            have h1 := (PRok_tk (x := x) hp (show tK x n p ≠ 0 by omega) (PRok_at hT.2.1)).2
            have b1 := ps_ok x n f 1 (d + 1) _ hT.2.1
            have b2 := PRok_sq (k := fun p1 => if tK x n p1 = 3 ∧ tV x n p1 = 41 then (true, tT x n p1, []) else (false, p1, [])) b1 (fun _ => PRok_sg b1.1.2 41)
            have b3 := (PRok_tk (x := x) hp (show tK x n p ≠ 0 by omega) b2).1
            refine Go_step hok (by decide) (by rw [stepS_5, if_neg c, if_neg c2, if_pos c3]) (Go_down (Go_seq (ih 1 (d + 1) _ (141 :: 12 :: stk) out q hq (by omega) hT.2.1 (by omega) (by decide) (by show 8 * (n - _) + 3 < _; omega) (by rw [List.length_cons, List.length_cons]; show _ + 6 + _ ≤ _; omega)) (fun h => Go_sg (k := 41) (by decide) ?_)) (fun h => okr _ _ _ b3 h (by omega) (by omega)))
            have := olen _ _ q b1 h (by omega)
            exact ⟨by have := b1.1; omega, by rw [List.length_cons]; omega, by omega, by have := b1.1; omega, hcl, hbg⟩
          · rename_i c3
            exact Go_no hok (by decide) (by rw [stepS_5, if_neg c, if_neg c2, if_neg c3])
    · have hf : 8 * (n - p) + 6 < ((f + 1 : Nat) : Int) := hf
      have hst : (stk.length : Int) + 11 + 24 * (8 - d) ≤ 480 := hst
      rw [ps_6]
      have b1 := ps_ok x n f 8 d p hp
      refine Go_step hok (by decide) (stepS_6 ..) (Go_seq (ih 8 d p (7 :: stk) out q hq ho hp hd (by decide) (by show 8 * (n - p) + 5 < _; omega) (by rw [List.length_cons]; show _ + 9 + _ ≤ _; omega)) (fun h => ?_))
      exact ih 7 d _ stk _ q hq (olen _ p q b1 h ho) b1.1.2 hd (by decide) (by show 8 * (n - _) + 0 < _; have := b1.1; omega) (by show _ + 11 + _ ≤ _; omega)
    · have hf : 8 * (n - p) + 0 < ((f + 1 : Nat) : Int) := hf
      have hst : (stk.length : Int) + 11 + 24 * (8 - d) ≤ 480 := hst
      rw [ps_7]
      split
      · rename_i c
        have h1 := (PRok_tk (x := x) hp (show tK x n p ≠ 0 by omega) (PRok_at hT.2.1)).2
        have b1 := ps_ok x n f 8 d _ hT.2.1
        have b2 := PRok_em (x := x) hp (show tK x n p ≠ 0 by omega) b1 (10, 0)
        refine Go_step hok (by decide) (by rw [stepS_7, if_pos c]) (Go_seq (Go_seq (ih 8 d _ (1010 :: 7 :: stk) out (q + 1) (by omega) (by omega) hT.2.1 hd (by decide) (by show 8 * (n - _) + 5 < _; omega) (by rw [List.length_cons, List.length_cons]; show _ + 9 + _ ≤ _; omega)) (fun h => Go_em (e := 10) (by decide) ?_)) (fun h => ?_))
        · have := olen _ _ (q + 1) b1 h (by omega)
          exact ⟨by have := b1.1; omega, by rw [List.length_cons]; omega, hd, by have := b1.1; omega, hcl, hbg⟩
        · exact ih 7 d _ stk _ q hq (olen _ p q b2 h ho) b2.1.2 hd (by decide) (by show 8 * (n - _) + 0 < _; rw [sq_pl]; have := b1.1; omega) (by show _ + 11 + _ ≤ _; omega)
      · rename_i c
        exact Go_step hok (by decide) (by rw [stepS_7, if_neg c]) Go_at
    · have hf : 8 * (n - p) + 5 < ((f + 1 : Nat) : Int) := hf
      have hst : (stk.length : Int) + 9 + 24 * (8 - d) ≤ 480 := hst
      rw [ps_8]
      have b1 := ps_ok x n f 10 d p hp
      refine Go_step hok (by decide) (stepS_8 ..) (Go_seq (ih 10 d p (9 :: stk) out q hq ho hp hd (by decide) (by show 8 * (n - p) + 4 < _; omega) (by rw [List.length_cons]; show _ + 7 + _ ≤ _; omega)) (fun h => ?_))
      exact ih 9 d _ stk _ q hq (olen _ p q b1 h ho) b1.1.2 hd (by decide) (by show 8 * (n - _) + 0 < _; have := b1.1; omega) (by show _ + 9 + _ ≤ _; omega)
    · have hf : 8 * (n - p) + 0 < ((f + 1 : Nat) : Int) := hf
      have hst : (stk.length : Int) + 9 + 24 * (8 - d) ≤ 480 := hst
      rw [ps_9]
      split
      · rename_i c
        have h1 := (PRok_tk (x := x) hp (show tK x n p ≠ 0 by omega) (PRok_at hT.2.1)).2
        have b1 := ps_ok x n f 10 d _ hT.2.1
        have b2 := PRok_em (x := x) hp (show tK x n p ≠ 0 by omega) b1 (9, 0)
        refine Go_step hok (by decide) (by rw [stepS_9, if_pos c]) (Go_seq (Go_seq (ih 10 d _ (1009 :: 9 :: stk) out (q + 1) (by omega) (by omega) hT.2.1 hd (by decide) (by show 8 * (n - _) + 4 < _; omega) (by rw [List.length_cons, List.length_cons]; show _ + 7 + _ ≤ _; omega)) (fun h => Go_em (e := 9) (by decide) ?_)) (fun h => ?_))
        · have := olen _ _ (q + 1) b1 h (by omega)
          exact ⟨by have := b1.1; omega, by rw [List.length_cons]; omega, hd, by have := b1.1; omega, hcl, hbg⟩
        · exact ih 9 d _ stk _ q hq (olen _ p q b2 h ho) b2.1.2 hd (by decide) (by show 8 * (n - _) + 0 < _; rw [sq_pl]; have := b1.1; omega) (by show _ + 9 + _ ≤ _; omega)
      · rename_i c
        exact Go_step hok (by decide) (by rw [stepS_9, if_neg c]) Go_at
    · have hf : 8 * (n - p) + 4 < ((f + 1 : Nat) : Int) := hf
      have hst : (stk.length : Int) + 7 + 24 * (8 - d) ≤ 480 := hst
      rw [ps_10]
      split
      · rename_i c
        split
        · rename_i c2
          exact Go_no hok (by decide) (by rw [stepS_10, if_pos c, if_pos c2])
        · rename_i c2
          have h1 := (PRok_tk (x := x) hp (show tK x n p ≠ 0 by omega) (PRok_at hT.2.1)).2
          have b1 := ps_ok x n f 10 (d + 1) _ hT.2.1
          have b2 := PRok_em (x := x) hp (show tK x n p ≠ 0 by omega) b1 (11, 0)
          refine Go_step hok (by decide) (by rw [stepS_10, if_pos c, if_neg c2]) (Go_down (Go_seq (ih 10 (d + 1) _ (1011 :: 12 :: stk) out (q + 1) (by omega) (by omega) hT.2.1 (by omega) (by decide) (by show 8 * (n - _) + 4 < _; omega) (by rw [List.length_cons, List.length_cons]; show _ + 7 + _ ≤ _; omega)) (fun h => Go_em (e := 11) (by decide) ?_)) (fun h => okr _ _ _ b2 h (by omega) (by omega)))
          have := olen _ _ (q + 1) b1 h (by omega)
          exact ⟨by have := b1.1; omega, by rw [List.length_cons]; omega, by omega, by have := b1.1; omega, hcl, hbg⟩
      · rename_i c
        split
        · rename_i c2
          split
          · rename_i c3
            exact Go_no hok (by decide) (by rw [stepS_10, if_neg c, if_pos c2, if_pos c3])
          · rename_i c3
            have h1 := (PRok_tk (x := x) hp (show tK x n p ≠ 0 by omega) (PRok_at hT.2.1)).2
            have b1 := ps_ok x n f 6 (d + 1) _ hT.2.1
            have b2 := PRok_sq (k := fun p1 => if tK x n p1 = 3 ∧ tV x n p1 = 93 then (true, tT x n p1, []) else (false, p1, [])) b1 (fun _ => PRok_sg b1.1.2 93)
            have b3 := (PRok_tk (x := x) hp (show tK x n p ≠ 0 by omega) b2).1
            refine Go_step hok (by decide) (by rw [stepS_10, if_neg c, if_pos c2, if_neg c3]) (Go_down (Go_seq (ih 6 (d + 1) _ (193 :: 12 :: stk) out q hq (by omega) hT.2.1 (by omega) (by decide) (by show 8 * (n - _) + 6 < _; omega) (by rw [List.length_cons, List.length_cons]; show _ + 11 + _ ≤ _; omega)) (fun h => Go_sg (k := 93) (by decide) ?_)) (fun h => okr _ _ _ b3 h (by omega) (by omega)))
            have := olen _ _ q b1 h (by omega)
            exact ⟨by have := b1.1; omega, by rw [List.length_cons]; omega, by omega, by have := b1.1; omega, hcl, hbg⟩
        · rename_i c2
          have b1 := ps_ok x n f 1 d p hp
          refine Go_step hok (by decide) (by rw [stepS_10, if_neg c, if_neg c2]) (Go_seq (ih 1 d p (11 :: stk) out q hq ho hp hd (by decide) (by show 8 * (n - p) + 3 < _; omega) (by rw [List.length_cons]; show _ + 6 + _ ≤ _; omega)) (fun h => ?_))
          exact ih 11 d _ stk _ q hq (olen _ p q b1 h ho) b1.1.2 hd (by decide) (by show 8 * (n - _) + 0 < _; have := b1.1; omega) (by show _ + 7 + _ ≤ _; omega)
    · have hf : 8 * (n - p) + 0 < ((f + 1 : Nat) : Int) := hf
      have hst : (stk.length : Int) + 7 + 24 * (8 - d) ≤ 480 := hst
      rw [ps_11]
      split
      · rename_i c
        have h1 := (PRok_tk (x := x) hp (show tK x n p ≠ 0 by omega) (PRok_at hT.2.1)).2
        have b1 := ps_ok x n f 1 d _ hT.2.1
        refine Go_step hok (by decide) (by rw [stepS_11, if_pos c]) (Go_seq (ih 1 d _ (_ :: stk) out (q + 1) (by omega) (by omega) hT.2.1 hd (by decide) (by show 8 * (n - _) + 3 < _; omega) (by rw [List.length_cons]; show _ + 6 + _ ≤ _; omega)) (fun h => Go_em (by (repeat' split) <;> decide) ?_))
        have := olen _ _ (q + 1) b1 h (by omega)
        exact ⟨by have := b1.1; omega, by omega, hd, by have := b1.1; omega, hcl, hbg⟩
      · rename_i c
        exact Go_no hok (by decide) (by rw [stepS_11, if_neg c])
end RUN
