/-! THE COMPONENT: rules -/
set_option maxRecDepth 100000

def sgR (bg : Int → Int) (q : Nat) : Nat := if q = 30 then 6005 else if q = 31 ∨ q = 32 then 6006 + (q - 31) else if 4000 ≤ q ∧ q < 5000 then 7000 + ((bg 0).toNat + (q - 4000)) else if 5000 ≤ q then 7000 + ((bg 1).toNat + (q - 5000)) else q
theorem sgR_a {bg : Int → Int} {q : Nat} (h : q < 30 ∨ (32 < q ∧ q < 4000)) : sgR bg q = q := by
  unfold sgR
  rw [if_neg (by omega), if_neg (by omega), if_neg (by omega), if_neg (by omega)]
theorem sgR_30 {bg : Int → Int} : sgR bg 30 = 6005 := rfl
theorem sgR_c {bg : Int → Int} {q : Nat} (h : q = 31 ∨ q = 32) : sgR bg q = 6006 + (q - 31) := by
  unfold sgR
  rw [if_neg (by omega), if_pos h]
theorem sgR_4 {bg : Int → Int} {q : Nat} (h : 4000 ≤ q ∧ q < 5000) : sgR bg q = 7000 + ((bg 0).toNat + (q - 4000)) := by
  unfold sgR
  rw [if_neg (by omega), if_neg (by omega), if_pos h]
theorem sgR_5 {bg : Int → Int} {q : Nat} (h : 5000 ≤ q) : sgR bg q = 7000 + ((bg 1).toNat + (q - 5000)) := by
  unfold sgR
  rw [if_neg (by omega), if_neg (by omega), if_neg (by omega), if_pos h]
/-- where a valid role of the new world lies -/
theorem cV_k {nv : Nat → Nat} {F1 : Nat → Int → Int} {S1 : Nat → Nat → Int} {r : Nat} (h : cV nv F1 S1 r) : (r ≤ 28 ∨ (1000 ≤ r ∧ r < 1600) ∨ (2000 ≤ r ∧ r < 2013) ∨ (3000 ≤ r ∧ r < 3500)) ∨ r = 30 ∨ (r = 31 ∧ F1 64 0 ≠ -1) ∨ (r = 32 ∧ F1 64 1 ≠ -1) ∨ ((4000 ≤ r ∧ r < 5000) ∧ F1 64 0 ≠ -1 ∧ ((r - 4000 : Nat) : Int) < F1 65 0 - F1 64 0) ∨ ((5000 ≤ r ∧ r < 6000) ∧ F1 64 1 ≠ -1 ∧ ((r - 5000 : Nat) : Int) < F1 65 1 - F1 64 1) := by
  rcases h with h | h | h | h | h | h | h | h | ⟨-, h | h | h | h | h⟩
  · exact Or.inl (by omega)
  · exact Or.inl (by omega)
  · exact Or.inl (by omega)
  · exact Or.inl (by omega)
  · exact Or.inl (by omega)
  · exact Or.inl (by omega)
  · exact Or.inl (by omega)
  · exact Or.inl (by omega)
  · exact Or.inr (Or.inl h)
  · exact Or.inr (Or.inr (Or.inl h))
  · exact Or.inr (Or.inr (Or.inr (Or.inl h)))
  · exact Or.inr (Or.inr (Or.inr (Or.inr (Or.inl ⟨⟨h.1, h.2.2.2⟩, h.2.1, h.2.2.1⟩))))
  · exact Or.inr (Or.inr (Or.inr (Or.inr (Or.inr ⟨⟨h.1, h.2.2.2⟩, h.2.1, h.2.2.1⟩))))
theorem rl_far {b0 b1 c0 c1 : Int} {P : Prop} (h : b0 ≠ -1 → b1 ≠ -1 → c0 ≤ b1 ∨ c1 ≤ b0) (h0 : b0 ≠ -1) (h1 : b1 ≠ -1) (hP : (c0 ≤ b1 → False) ∧ (c1 ≤ b0 → False)) : P := by
  rcases h h0 h1 with z | z
  · exact (hP.1 z).elim
  · exact (hP.2 z).elim
theorem rules_world {D : va_G} {A : Nat → Prop} {H : Heap} {E : Nat → ClassId} {ad ad2 nv L : Nat → Nat} {I : Nat → Int} {F F1 : Nat → Int → Int} {S : Nat → Nat → Int} {Y : Nat → Int → Int} {V2 : Nat → Prop} {C2 C3 : Nat → va_E} {bg cs : Int → Int} {out : List (Int × Int)} (hb : I 1 ≤ 100 ∧ I 4 ≤ 100 ∧ I 10 ≤ 100 ∧ I 18 ≤ 100) (hlen : out.length ≤ 300)
    (hG : GW D A V2 ad2 C3 H) (hV : ∀ q, cV nv F S q → V2 q) (hvk : ∀ r, (r ≤ 28 ∨ (1000 ≤ r ∧ r < 1600) ∨ (2000 ≤ r ∧ r < 2013) ∨ (3000 ≤ r ∧ r < 3500)) → cV nv F1 (up2 S 0 2 1) r → cV nv F S r) (hC3 : ∀ q, q ≠ 0 → C3 q = C2 q) (hC2 : ∀ q, q < 6000 → C2 q = cC E ad I F S Y L q) (hd : ∀ q, q < 6000 → ad2 q = ad q)
    (hk0 : C3 0 = .inr (0, c0v (fun q => ad2 (sgR bg q)) (va_up I 48 0) (up2 S 0 2 1))) (hCL : CL E V2 ad2 C2 bg cs out.length) (hmk : ∀ j, j < out.length → V2 (7000 + j) ∧ C2 (7000 + j) = mkE (out.getD j (0, 0)).1 (out.getD j (0, 0)).2) (hdis : disB bg cs)
    (hF : ∀ j, j ≠ 53 → j ≠ 57 → j ≠ 58 → j ≠ 60 → j ≠ 61 → j ≠ 62 → j ≠ 63 → j ≠ 64 → j ≠ 65 → F1 j = F j) (h64 : ∀ c : Int, c = 0 ∨ c = 1 → F1 64 c = bg c ∧ (bg c ≠ -1 → F1 65 c = cs c)) (h62 : ∀ i : Nat, i < out.length → F1 62 i = (out.getD i (0, 0)).1 ∧ F1 63 i = (out.getD i (0, 0)).2) :
    GW D A (cV nv F1 (up2 S 0 2 1)) (fun q => ad2 (sgR bg q)) (cC E (fun q => ad2 (sgR bg q)) (va_up I 48 0) F1 (up2 S 0 2 1) Y L) H := by
  have e0 := h64 0 (Or.inl rfl)
  have e1 := h64 1 (Or.inr rfl)
  have c0 := hCL.2 0 (by decide)
  have c1 := hCL.2 1 (by decide)
  have d0 : bg 0 ≠ -1 → (0 ≤ bg 0 ∧ bg 0 ≤ cs 0 ∧ cs 0 ≤ (out.length : Int)) ∧ V2 6006 ∧ C2 6006 = .inl (E 6, (cs 0 - bg 0).toNat, ar (clR ad2 (bg 0) (cs 0 - bg 0).toNat)) := fun q => c0.resolve_left (fun z => q z.1)
  have d1 : bg 1 ≠ -1 → (0 ≤ bg 1 ∧ bg 1 ≤ cs 1 ∧ cs 1 ≤ (out.length : Int)) ∧ V2 6007 ∧ C2 6007 = .inl (E 6, (cs 1 - bg 1).toNat, ar (clR ad2 (bg 1) (cs 1 - bg 1).toNat)) := fun q => c1.resolve_left (fun z => q z.1)
  refine hG.re (sgR bg) (fun r hr => ?_) (fun r hr => rfl) (fun r hr => ?_) (fun r q hr hq he => ?_)
  · rcases cV_k hr with h | h | ⟨h, q⟩ | ⟨h, q⟩ | ⟨h, q, z⟩ | ⟨h, q, z⟩
    · rw [sgR_a (by omega)]; exact hV r (hvk r h hr)
    · subst h; exact hCL.1.1
    · subst h; rw [e0.1] at q; exact (d0 q).2.1
    · subst h; rw [e1.1] at q; exact (d1 q).2.1
    · rw [e0.1] at q z
      rw [e0.2 q] at z
      have w := (d0 q).1
      rw [sgR_4 h]
      exact (hmk _ (by omega)).1
    · rw [e1.1] at q z
      rw [e1.2 q] at z
      have w := (d1 q).1
      rw [sgR_5 h.1]
      exact (hmk _ (by omega)).1
  · by_cases c00 : r = 0
    · subst c00
      rw [show sgR bg 0 = 0 from rfl, hk0]
      exact Or.inl rfl
    rcases cV_k hr with h | h | ⟨h, q⟩ | ⟨h, q⟩ | ⟨h, q, z⟩ | ⟨h, q, z⟩
    · rw [sgR_a (by omega), hC3 r c00, hC2 r (by omega)]
      exact cCr hb (fun j hj => va_up_ne _ _ hj) hF (fun r hr => up2_ne hr) (fun q hq => by show ad2 (sgR bg q) = ad q; rw [sgR_a (by omega), hd q (by omega)]) c00 (by omega)
    · subst h
      rw [sgR_30, hC3 6005 (by decide), hCL.1.2]
      refine cEq_r (fun j hj => ?_)
      show clF ad2 bg j = if F1 64 (j : Int) = -1 then none else some (ad2 (sgR bg (31 + j)))
      rw [sgR_c (by omega), show 6006 + (31 + j - 31) = 6006 + j by omega, (h64 (j : Int) (by omega)).1]
      unfold clF
      by_cases cb : bg (j : Int) = -1
      · rw [if_neg (fun z => z.2 cb), if_pos cb]
      · rw [if_pos ⟨hj, cb⟩, if_neg cb]
    · subst h
      rw [e0.1] at q
      have w := (d0 q).1
      rw [show sgR bg 31 = 6006 from rfl, hC3 6006 (by decide), (d0 q).2.2]
      show cEq _ (.inl (E 6, (F1 65 0 - F1 64 0).toNat, ar (fun j => some (ad2 (sgR bg (4000 + 1000 * (31 - 31) + j))))))
      rw [e0.1, e0.2 q]
      refine cEq_r (fun j hj => ?_)
      unfold clR
      rw [if_pos hj, sgR_4 (by omega), show 4000 + 1000 * (31 - 31) + j - 4000 = j by omega]
    · subst h
      rw [e1.1] at q
      have w := (d1 q).1
      rw [show sgR bg 32 = 6007 from rfl, hC3 6007 (by decide), (d1 q).2.2]
      show cEq _ (.inl (E 6, (F1 65 1 - F1 64 1).toNat, ar (fun j => some (ad2 (sgR bg (4000 + 1000 * (32 - 31) + j))))))
      rw [e1.1, e1.2 q]
      refine cEq_r (fun j hj => ?_)
      unfold clR
      rw [if_pos hj, sgR_5 (by omega), show 4000 + 1000 * (32 - 31) + j - 5000 = j by omega]
    · rw [e0.1] at q z
      rw [e0.2 q] at z
      have w := (d0 q).1
      have hi : (bg 0).toNat + (r - 4000) < out.length := by omega
      have e62 := h62 _ hi
      rw [sgR_4 h, hC3 _ (by omega), (hmk _ hi).2]
      refine Or.inl ?_
      unfold cC
      rw [if_neg (by omega), if_neg (by omega), if_neg (by omega), if_neg (by omega), if_neg (by omega), if_neg (by omega), if_neg (by omega), if_neg (by omega), if_neg (by omega), if_neg (by omega), if_neg (by omega), if_neg (by omega), if_neg (by omega), if_pos h.2, e0.1, show bg 0 + ((r - 4000 : Nat) : Int) = (((bg 0).toNat + (r - 4000) : Nat) : Int) by omega, e62.1, e62.2]
    · rw [e1.1] at q z
      rw [e1.2 q] at z
      have w := (d1 q).1
      have hi : (bg 1).toNat + (r - 5000) < out.length := by omega
      have e62 := h62 _ hi
      rw [sgR_5 h.1, hC3 _ (by omega), (hmk _ hi).2]
      refine Or.inl ?_
      unfold cC
      rw [if_neg (by omega), if_neg (by omega), if_neg (by omega), if_neg (by omega), if_neg (by omega), if_neg (by omega), if_neg (by omega), if_neg (by omega), if_neg (by omega), if_neg (by omega), if_neg (by omega), if_neg (by omega), if_neg (by omega), if_neg (by omega), e1.1, show bg 1 + ((r - 5000 : Nat) : Int) = (((bg 1).toNat + (r - 5000) : Nat) : Int) by omega, e62.1, e62.2]
  · have kk : ∀ r, cV nv F1 (up2 S 0 2 1) r → (sgR bg r = r ∧ r < 4000 ∧ r ≠ 30 ∧ r ≠ 31 ∧ r ≠ 32) ∨ (r = 30 ∧ sgR bg r = 6005) ∨ (r = 31 ∧ sgR bg r = 6006) ∨ (r = 32 ∧ sgR bg r = 6007) ∨ ((4000 ≤ r ∧ r < 5000) ∧ bg 0 ≠ -1 ∧ (0 ≤ bg 0 ∧ bg 0 + (r - 4000 : Nat) < cs 0) ∧ sgR bg r = 7000 + ((bg 0).toNat + (r - 4000))) ∨ ((5000 ≤ r ∧ r < 6000) ∧ bg 1 ≠ -1 ∧ (0 ≤ bg 1 ∧ bg 1 + (r - 5000 : Nat) < cs 1) ∧ sgR bg r = 7000 + ((bg 1).toNat + (r - 5000))) := by
      intro r hr
      rcases cV_k hr with h | h | ⟨h, q⟩ | ⟨h, q⟩ | ⟨h, q, z⟩ | ⟨h, q, z⟩
      · exact Or.inl ⟨sgR_a (by omega), by omega⟩
      · subst h; exact Or.inr (Or.inl ⟨rfl, rfl⟩)
      · subst h; exact Or.inr (Or.inr (Or.inl ⟨rfl, rfl⟩))
      · subst h; exact Or.inr (Or.inr (Or.inr (Or.inl ⟨rfl, rfl⟩)))
      · rw [e0.1] at q z
        rw [e0.2 q] at z
        exact Or.inr (Or.inr (Or.inr (Or.inr (Or.inl ⟨h, q, ⟨(d0 q).1.1, by omega⟩, sgR_4 h⟩))))
      · rw [e1.1] at q z
        rw [e1.2 q] at z
        exact Or.inr (Or.inr (Or.inr (Or.inr (Or.inr ⟨h, q, ⟨(d1 q).1.1, by omega⟩, sgR_5 h.1⟩))))
    have k1 := kk r hr
    have k2 := kk q hq
    have hd2 : bg 0 ≠ -1 → bg 1 ≠ -1 → cs 0 ≤ bg 1 ∨ cs 1 ≤ bg 0 := hdis
    clear hdis
    clear kk d0 d1 c0 c1 e0 e1 h64 h62 hmk hCL hC2 hC3 hk0 hV hvk hd hF hG
    rcases k1 with ⟨a1, a2⟩ | ⟨a1, a2⟩ | ⟨a1, a2⟩ | ⟨a1, a2⟩ | ⟨a1, a2, a3, a4⟩ | ⟨a1, a2, a3, a4⟩ <;> rcases k2 with ⟨b1, b2⟩ | ⟨b1, b2⟩ | ⟨b1, b2⟩ | ⟨b1, b2⟩ | ⟨b1, b2, b3, b4⟩ | ⟨b1, b2, b3, b4⟩ <;> first | omega | (exfalso; exact rl_far hd2 (by assumption) (by assumption) (by constructor <;> intro z <;> omega))

theorem cV_same {nv : Nat → Nat} {F F1 : Nat → Int → Int} {S S1 : Nat → Nat → Int} {r : Nat} (h : r ≤ 28 ∨ (1000 ≤ r ∧ r < 1600) ∨ (2000 ≤ r ∧ r < 2013) ∨ (3000 ≤ r ∧ r < 3500)) (hr : cV nv F1 S1 r) : cV nv F S r := by
  rcases hr with q | q | q | q | q | q | q | q | ⟨-, q⟩
  · exact Or.inl q
  · exact Or.inr (Or.inl q)
  · exact Or.inr (Or.inr (Or.inl q))
  · exact Or.inr (Or.inr (Or.inr (Or.inl q)))
  · exact Or.inr (Or.inr (Or.inr (Or.inr (Or.inl q))))
  · exact Or.inr (Or.inr (Or.inr (Or.inr (Or.inr (Or.inl q)))))
  · exact Or.inr (Or.inr (Or.inr (Or.inr (Or.inr (Or.inr (Or.inl q))))))
  · exact Or.inr (Or.inr (Or.inr (Or.inr (Or.inr (Or.inr (Or.inr (Or.inl q)))))))
  · exfalso
    rcases q with q | q | q | q | q <;> omega
theorem k0_eq {ad ad2 : Nat → Nat} {bg : Int → Int} {I : Nat → Int} {S : Nat → Nat → Int} (hd : ∀ q, q < 6000 → ad2 q = ad q) : (Sum.inr (0, [.ref (ad 1), .int (iI 0), .ref (ad2 6005), .ref (ad 2), .ref (ad 3), .ref (ad 11), .ref (ad 12), .ref (ad 13), .ref (ad 14), .ref (ad 4), .ref (ad 5), .int (iI (I 15)), .int (iI (I 22)), .int (iI (I 23)), .int (iI (I 24)), .int (iI (I 25)), .ref (ad 19), .ref (ad 20), .ref (ad 9), .ref (ad 6), .ref (ad 7), .ref (ad 10), .int (iI (I 41)), .int (iI (I 44)), .ref (ad 8), .int (iI (I 45))]) : va_E) = .inr (0, c0v (fun q => ad2 (sgR bg q)) (va_up I 48 0) (up2 S 0 2 1)) := by
  rw [← hd 1 (by decide), ← hd 2 (by decide), ← hd 3 (by decide), ← hd 11 (by decide), ← hd 12 (by decide), ← hd 13 (by decide), ← hd 14 (by decide), ← hd 4 (by decide), ← hd 5 (by decide), ← hd 19 (by decide), ← hd 20 (by decide), ← hd 9 (by decide), ← hd 6 (by decide), ← hd 7 (by decide), ← hd 10 (by decide), ← hd 8 (by decide)]
  rfl
theorem dX0_rules_0 : decode cX0_rules 0 = .ok (.new 105, 3) := by decide +kernel
theorem dX0_rules_3 : decode cX0_rules 3 = .ok (.dup, 1) := by decide +kernel
theorem dX0_rules_4 : decode cX0_rules 4 = .ok (.aload_n 0, 1) := by decide +kernel
theorem dX0_rules_5 : decode cX0_rules 5 = .ok (.getfield 18, 3) := by decide +kernel
theorem dX0_rules_8 : decode cX0_rules 8 = .ok (.aload_n 0, 1) := by decide +kernel
theorem dX0_rules_9 : decode cX0_rules 9 = .ok (.getfield 95, 3) := by decide +kernel
theorem dX0_rules_12 : decode cX0_rules 12 = .ok (.invokespecial 107, 3) := by decide +kernel
theorem dX0_rules_15 : decode cX0_rules 15 = .ok (.invokevirtual 110, 3) := by decide +kernel
theorem dX0_rules_18 : decode cX0_rules 18 = .ok (.astore_n 1, 1) := by decide +kernel
theorem dX0_rules_19 : decode cX0_rules 19 = .ok (.aload_n 1, 1) := by decide +kernel
theorem dX0_rules_20 : decode cX0_rules 20 = .ok (.ifnonnull 5, 3) := by decide +kernel
theorem dX0_rules_23 : decode cX0_rules 23 = .ok (.iconst 0, 1) := by decide +kernel
theorem dX0_rules_24 : decode cX0_rules 24 = .ok (.ireturn, 1) := by decide +kernel
theorem dX0_rules_25 : decode cX0_rules 25 = .ok (.aload_n 0, 1) := by decide +kernel
theorem dX0_rules_26 : decode cX0_rules 26 = .ok (.iconst 0, 1) := by decide +kernel
theorem dX0_rules_27 : decode cX0_rules 27 = .ok (.putfield 95, 3) := by decide +kernel
theorem dX0_rules_30 : decode cX0_rules 30 = .ok (.aload_n 0, 1) := by decide +kernel
theorem dX0_rules_31 : decode cX0_rules 31 = .ok (.aload_n 1, 1) := by decide +kernel
theorem dX0_rules_32 : decode cX0_rules 32 = .ok (.putfield 117, 3) := by decide +kernel
theorem dX0_rules_35 : decode cX0_rules 35 = .ok (.iconst 1, 1) := by decide +kernel
theorem dX0_rules_36 : decode cX0_rules 36 = .ok (.ireturn, 1) := by decide +kernel
set_option maxHeartbeats 4000000 in
theorem crules (l : Launch) (adK adV st : Nat → Nat) (D : va_G) (E : Nat → ClassId) (A : Nat → Prop) (ad nv : Nat → Nat) (I : Nat → Int) (F : Nat → Int → Int) (S : Nat → Nat → Int) (Y : Nat → Int → Int) (L : Nat → Nat) (hn48 : 0 ≤ I 48 ∧ I 48 ≤ 300) (hbt : Bd (F 47) 300 (-128) 127) (F1 : Nat → Int → Int) (hb9 : I 1 ≤ 100 ∧ I 4 ≤ 100 ∧ I 10 ≤ 100 ∧ I 18 ≤ 100) (hF1 : (rwS (F 47) (I 48) 3 0 [] 0 (fun _ => -1) (fun _ => 0)).1 = true → (∀ j, j ≠ 53 → j ≠ 57 → j ≠ 58 → j ≠ 60 → j ≠ 61 → j ≠ 62 → j ≠ 63 → j ≠ 64 → j ≠ 65 → F1 j = F j) ∧ (∀ c : Int, c = 0 ∨ c = 1 → F1 64 c = (rwS (F 47) (I 48) 3 0 [] 0 (fun _ => -1) (fun _ => 0)).2.2.2.2.1 c ∧ ((rwS (F 47) (I 48) 3 0 [] 0 (fun _ => -1) (fun _ => 0)).2.2.2.2.1 c ≠ -1 → F1 65 c = (rwS (F 47) (I 48) 3 0 [] 0 (fun _ => -1) (fun _ => 0)).2.2.2.2.2 c)) ∧ ∀ i : Nat, i < (rwS (F 47) (I 48) 3 0 [] 0 (fun _ => -1) (fun _ => 0)).2.2.1.length → F1 62 i = ((rwS (F 47) (I 48) 3 0 [] 0 (fun _ => -1) (fun _ => 0)).2.2.1.getD i (0, 0)).1 ∧ F1 63 i = ((rwS (F 47) (I 48) 3 0 [] 0 (fun _ => -1) (fun _ => 0)).2.2.1.getD i (0, 0)).2) : AM l yX0_rules cX0_rules 2 (some .boolean) (amr 72 2106 12033) adK adV st D E A [.ref (ad 0)] (cV nv F S) ad (cC E ad I F S Y L) (AQi D E A (fun z ad1 V1 C1 => ((rwS (F 47) (I 48) 3 0 [] 0 (fun _ => -1) (fun _ => 0)).1 = true ∧ 1 = z ∧ V1 = cV nv F1 (up2 S 0 2 1) ∧ C1 = cC E ad1 (va_up I 48 0) F1 (up2 S 0 2 1) Y L) ∨ ((rwS (F 47) (I 48) 3 0 [] 0 (fun _ => -1) (fun _ => 0)).1 = false ∧ 0 = z ∧ ad = ad1 ∧ V1 = cV nv F S ∧ C1 = cC E ad I F S Y L))) 2106 12033 := by
  refine a_start (by decide) rfl (Nat.le_of_ble_eq_true rfl) ?_
  intro p e R s m args below meth c ls Q hR hQ hCK hml hr hlk hnme hG hS hE hA hl
  have hx := hCK.1
  have hb := hCK.2.1
  have hown := hCK.2.2.1
  have hts := hCK.2.2.2.1
  have hK := hCK.2.2.2.2
  have hl : lv_has ls 2 [(0, .ref (ad 0))] := hl
  have v_mn : cV nv F S 0 := Or.inl (by decide)
  have e_mn : ad 0 = ad 0 := rfl
  have k_mn : cC E ad I F S Y L 0 = .inr (0, [.ref (ad 1), .int (iI (I 48)), (if S 0 2 = 0 then .null else .ref (ad 30)), .ref (ad 2), .ref (ad 3), .ref (ad 11), .ref (ad 12), .ref (ad 13), .ref (ad 14), .ref (ad 4), .ref (ad 5), .int (iI (I 15)), .int (iI (I 22)), .int (iI (I 23)), .int (iI (I 24)), .int (iI (I 25)), .ref (ad 19), .ref (ad 20), .ref (ad 9), .ref (ad 6), .ref (ad 7), .ref (ad 10), .int (iI (I 41)), .int (iI (I 44)), .ref (ad 8), .int (iI (I 45))]) := cC_0
  have v_mn0 := v_mn
  have h6000 : ∀ q, 6000 ≤ q → ¬ cV nv F S q := by
    intro q hq h
    unfold cV at h
    omega
  have hOa : ∀ q, (q ≠ 6000) → ad q = ad q := fun _ _ => rfl
  have hOc : ∀ q, (q ≠ 6000) → cC E ad I F S Y L q = cC E ad I F S Y L q := fun _ _ => rfl
  refine a_new (ci := 8) (fs := [.null, .null, .null, .int (iI 0), .null, .null, .int (iI 0), .int (iI 0), .int (iI 0), .int (iI 0), .int (iI 0)]) tyX9 hCK hG hS hA 6000 in_X9 tyX9_ok q303 q304 q86 rfl (by decide) (by rw [hR]; show _ ≤ _; (try unfold amr); (try simp only []); omega) (by rw [hR]; show _ ≤ _; (try unfold amr); (try simp only []); omega) dX0_rules_0 (fun x1 ad2 C3 H e_ob k_ob oo6 hG hS oh7 => ?_)
  obtain ⟨V8, hV8⟩ : ∃ X : Nat → Prop, X = fun q => (cV nv F S) q ∨ q = 6000 := ⟨_, rfl⟩
  rw [← hV8] at hG
  have v_mn : V8 0 := by rw [hV8]; exact Or.inl v_mn
  have e_mn : ad2 0 = ad 0 := (oo6 0 (by omega)).1.trans e_mn
  have k_mn : C3 0 = .inr (0, [.ref (ad 1), .int (iI (I 48)), (if S 0 2 = 0 then .null else .ref (ad 30)), .ref (ad 2), .ref (ad 3), .ref (ad 11), .ref (ad 12), .ref (ad 13), .ref (ad 14), .ref (ad 4), .ref (ad 5), .int (iI (I 15)), .int (iI (I 22)), .int (iI (I 23)), .int (iI (I 24)), .int (iI (I 25)), .ref (ad 19), .ref (ad 20), .ref (ad 9), .ref (ad 6), .ref (ad 7), .ref (ad 10), .int (iI (I 41)), .int (iI (I 44)), .ref (ad 8), .int (iI (I 45))]) := (oo6 0 (by omega)).2.trans k_mn
  have v_ob : V8 6000 := by rw [hV8]; exact Or.inr rfl
  have hOa : ∀ q, (q ≠ 6000) → ad2 q = ad q := fun q hq => (oo6 q (by omega)).1.trans (hOa q hq)
  have hOc : ∀ q, (q ≠ 6000) → C3 q = (cC E ad I F S Y L) q := fun q hq => (oo6 q (by omega)).2.trans (hOc q hq)
  refine lv_dup hx hb dX0_rules_3 rfl ?_
  refine lv_aload_n hx hb dX0_rules_4 rfl (lv_at hl 0 rfl) ?_
  refine a_get hCK hG 0 e_mn v_mn k_mn (ci := 0) rfl in_X0 0 (by decide) q194 rfl rfl dX0_rules_5 ?_
  refine W.eq (g2 := F0 m 8 ls [.ref (ad 1), .ref x1, .ref x1]) rfl ?_
  refine lv_aload_n hx hb dX0_rules_8 rfl (lv_at hl 0 rfl) ?_
  refine a_get hCK hG 0 e_mn v_mn k_mn (ci := 0) rfl in_X0 1 (by decide) q195 rfl rfl dX0_rules_9 ?_
  refine W.eq (g2 := F0 m 12 ls [.int (iI (I 48)), .ref (ad 1), .ref x1, .ref x1]) rfl ?_
  have hM := met_rinit l adK adV st D E A V8 ad2 C3 x1 (ad 1) (I 48) v_ob e_ob k_ob
  refine a_callv (a_runI (n := 2) (b := x1) (rest := [.ref x1]) (as := [.ref (ad 1), .int (iI (I 48))]) hCK hE hA hml (hM) q305 q306 q86 q307 rfl (by decide +kernel) ⟨rfl, rfl⟩ hR ⟨Nat.le_of_ble_eq_true rfl, Nat.le_of_ble_eq_true rfl⟩ ⟨(by rw [hR]; show _ ≤ _; (try unfold amr); (try simp only []); omega), (by rw [hR]; show _ ≤ _; (try unfold amr); (try simp only []); omega)⟩ hG hS rfl hl.1 rfl (Nat.le_of_ble_eq_true rfl) dX0_rules_12) hS (fun ad10 V11 C12 H locs hp13 hG hS => ?_)
  obtain ⟨hV9, oa9, oc9, k6, k61, k62, k63, k64, k65⟩ := hp13
  have e_mn : ad10 0 = ad 0 := (oa9 0 (by omega)).trans e_mn
  have k_mn : C12 0 = .inr (0, [.ref (ad 1), .int (iI (I 48)), (if S 0 2 = 0 then .null else .ref (ad 30)), .ref (ad 2), .ref (ad 3), .ref (ad 11), .ref (ad 12), .ref (ad 13), .ref (ad 14), .ref (ad 4), .ref (ad 5), .int (iI (I 15)), .int (iI (I 22)), .int (iI (I 23)), .int (iI (I 24)), .int (iI (I 25)), .ref (ad 19), .ref (ad 20), .ref (ad 9), .ref (ad 6), .ref (ad 7), .ref (ad 10), .int (iI (I 41)), .int (iI (I 44)), .ref (ad 8), .int (iI (I 45))]) := (oc9 0 (by omega)).trans k_mn
  have e_tx : ad10 1 = ad 1 := (oa9 1 (by omega)).trans (hOa 1 (by omega))
  have e_rd : ad10 6000 = x1 := (oa9 6000 (by omega)).trans e_ob
  have hVV : ∀ q, V11 q ↔ (cV nv F S q ∨ (6000 ≤ q ∧ q ≤ 6005)) := by
    intro q
    rw [hV9, hV8]
    constructor
    · rintro ((h | h) | h)
      · exact Or.inl h
      · exact Or.inr (by omega)
      · exact Or.inr (by omega)
    · rintro (h | h)
      · exact Or.inl (Or.inl h)
      · by_cases c : q = 6000
        · exact Or.inl (Or.inr c)
        · exact Or.inr (by omega)
  have hOa9 : ∀ q, q < 6000 → ad10 q = ad q := fun q hq => (oa9 q (by omega)).trans (hOa q (by omega))
  have hOc9 : ∀ q, q < 6000 → C12 q = cC E ad I F S Y L q := fun q hq => (oc9 q (by omega)).trans (hOc q (by omega))
  rw [← e_tx] at k6
  obtain ⟨hG, hRD, hCL⟩ := rd_start (cs0 := fun _ => 0) h6000 hVV hG (Or.inl (by decide)) ((hOc9 1 (by decide)).trans (cC_a (by decide))) k6 k61 k62 k63 k64 k65
  have v_rd : V11 6000 := hRD.2.1.1
  have k_rd := hRD.2.1.2
  have hM := met_rreads l adK adV st D E A V11 ad10 (rdC E adK ad10 C12) (F 47) (I 48) hn48 hbt 0 0 0 0 8 (fun _ => 0) hRD hCL
  rw [e_rd] at hM
  refine a_callw (a_runV (n := 0) (C0 := RX9) (b := x1) (rest := []) (as := []) hCK hE hA hml (hM) (by have h := g_rec (r := 6000) (ci := 8) hK hG v_rd rfl k_rd; rw [e_rd] at h; exact h) q359 q360 q361 q86 q362 (by decide +kernel) ⟨rfl, rfl⟩ hR ⟨Nat.le_of_ble_eq_true rfl, Nat.le_of_ble_eq_true rfl⟩ ⟨(by rw [hR]; show _ ≤ _; (try unfold amr); (try simp only []); omega), (by rw [hR]; show _ ≤ _; (try unfold amr); (try simp only []); omega)⟩ hG hS rfl hl.1 rfl (Nat.le_of_ble_eq_true rfl) dX0_rules_15) hS (fun z14 ad15 V16 C17 H locs hp18 hG hS => ?_)
  obtain ⟨hOC, hcs⟩ := hp18
  have hlt : ∀ r, cV nv F S r → r < 6000 := fun r h => Nat.lt_of_not_le (fun q => h6000 r q h)
  rcases hcs with ⟨hR, rfl, k1, fr1, to1, vl1, mo1, cap1, b1, hRD2, hCL2, hlen2⟩ | ⟨hR, rfl, v_rd, k1, fr1, to1, vl1, rk1, k_rd⟩
  · have v_mn : V16 0 := (hOC.1 0 (Or.inl (by decide))).2.mpr ((hVV 0).mpr (Or.inl v_mn0))
    have e_mn : ad15 0 = ad 0 := (hOC.1 0 (Or.inl (by decide))).1.trans e_mn
    have k_mn : C17 0 = .inr (0, [.ref (ad 1), .int (iI (I 48)), (if S 0 2 = 0 then .null else .ref (ad 30)), .ref (ad 2), .ref (ad 3), .ref (ad 11), .ref (ad 12), .ref (ad 13), .ref (ad 14), .ref (ad 4), .ref (ad 5), .int (iI (I 15)), .int (iI (I 22)), .int (iI (I 23)), .int (iI (I 24)), .int (iI (I 25)), .ref (ad 19), .ref (ad 20), .ref (ad 9), .ref (ad 6), .ref (ad 7), .ref (ad 10), .int (iI (I 41)), .int (iI (I 44)), .ref (ad 8), .int (iI (I 45))]) := (hOC.2 0 (by decide)).trans ((rdC_o (by decide) (by decide)).trans k_mn)
    have hOm : ∀ q, (q ≠ 0) → C17 q = C17 q := fun _ _ => rfl
    refine lv_astore_n (lv' := [(1, .ref (ad15 6005)), (0, .ref (ad 0))]) hx hb dX0_rules_18 rfl hl (by decide) rfl (fun ls hl => ?_)
    refine lv_aload_n hx hb dX0_rules_19 rfl (lv_at hl 0 rfl) ?_
    refine lv_ifnonnull (tgt := 25) hx hb dX0_rules_20 (by decide) ?_
    refine lv_aload_n hx hb dX0_rules_25 rfl (lv_at hl 1 rfl) ?_
    refine r_iconst hx hb dX0_rules_26 ?_
    refine a_put (tyf := tyX0) hCK hG hS 0 e_mn v_mn k_mn (ci := 0) rfl in_X0 tyX0_ok nmX0 1 (by decide) q195 rfl rfl rfl rfl (Nat.le_of_ble_eq_true rfl) dX0_rules_27 (fun C19 H locs kk20 oo21 hG hS => ?_)
    have k_mn : C19 0 = .inr (0, [.ref (ad 1), .int (iI 0), (if S 0 2 = 0 then .null else .ref (ad 30)), .ref (ad 2), .ref (ad 3), .ref (ad 11), .ref (ad 12), .ref (ad 13), .ref (ad 14), .ref (ad 4), .ref (ad 5), .int (iI (I 15)), .int (iI (I 22)), .int (iI (I 23)), .int (iI (I 24)), .int (iI (I 25)), .ref (ad 19), .ref (ad 20), .ref (ad 9), .ref (ad 6), .ref (ad 7), .ref (ad 10), .int (iI (I 41)), .int (iI (I 44)), .ref (ad 8), .int (iI (I 45))]) := kk20
    have hOm : ∀ q, (q ≠ 0) → C19 q = C17 q := fun q hq => (oo21 q (by omega)).trans (hOm q hq)
    refine lv_aload_n hx hb dX0_rules_30 rfl (lv_at hl 1 rfl) ?_
    refine lv_aload_n hx hb dX0_rules_31 rfl (lv_at hl 0 rfl) ?_
    refine a_put (tyf := tyX0) hCK hG hS 0 e_mn v_mn k_mn (ci := 0) rfl in_X0 tyX0_ok nmX0 2 (by decide) q197 rfl rfl rfl rfl (Nat.le_of_ble_eq_true rfl) dX0_rules_32 (fun C22 H locs kk23 oo24 hG hS => ?_)
    have k_mn : C22 0 = .inr (0, [.ref (ad 1), .int (iI 0), .ref (ad15 6005), .ref (ad 2), .ref (ad 3), .ref (ad 11), .ref (ad 12), .ref (ad 13), .ref (ad 14), .ref (ad 4), .ref (ad 5), .int (iI (I 15)), .int (iI (I 22)), .int (iI (I 23)), .int (iI (I 24)), .int (iI (I 25)), .ref (ad 19), .ref (ad 20), .ref (ad 9), .ref (ad 6), .ref (ad 7), .ref (ad 10), .int (iI (I 41)), .int (iI (I 44)), .ref (ad 8), .int (iI (I 45))]) := kk23
    have hOm : ∀ q, (q ≠ 0) → C22 q = C17 q := fun q hq => (oo24 q (by omega)).trans (hOm q hq)
    refine r_iconst hx hb dX0_rules_35 ?_
    obtain ⟨hf0, hf1, hf2⟩ := hF1 hR
    have hd9 : ∀ q, q < 6000 → ad15 q = ad q := fun q hq => by
      by_cases c : q ≤ 5999
      · exact (hOC.1 q (Or.inl (by omega))).1.trans (hOa9 q hq)
      · omega
    have hdis := rwS_dis (F 47) (I 48) 3 0 [] 0 (fun _ => -1) (fun _ => 0) (fun q => absurd rfl q) (fun j _ q => absurd rfl q)
    have hG := rules_world (F1 := F1) (F := F) (nv := nv) (S := S) (Y := Y) (L := L) (ad := ad) hb9 hlen2 hG (fun q hq => (hOC.1 q (Or.inl (by have := hlt q hq; omega))).2.mpr ((hVV q).mpr (Or.inl hq))) (fun r h hr => cV_same h hr) hOm (fun q hq => (hOC.2 q hq).trans ((rdC_o (by omega) (by omega)).trans (hOc9 q hq))) hd9 (by rw [k_mn]; exact k0_eq hd9) hCL2 hRD2.2.2.2.2.2.2.1 hdis hf0 hf1 hf2
    exact a_zret hCK hQ hr hlk hG hS (by omega) (by omega) (by decide) dX0_rules_36 (Or.inl ⟨hR, rfl, rfl, rfl⟩)
  · have hdummy := hR
    refine lv_astore_nN (lv' := [(1, .null), (0, .ref (ad 0))]) hx hb dX0_rules_18 rfl hl (by decide) rfl (fun ls hl => ?_)
    refine lv_aload_nN hx hb dX0_rules_19 rfl (lv_at hl 0 rfl) ?_
    refine lv_ifnonnullN hx hb dX0_rules_20 ?_
    refine r_iconst hx hb dX0_rules_23 ?_
    have hG := hG.back (V := cV nv F S) (ad := ad) (C := cC E ad I F S Y L) (fun r h => (hOC.1 r (Or.inl (by have := hlt r h; omega))).2.mpr ((hVV r).mpr (Or.inl h))) (fun r h => (hOC.1 r (Or.inl (by have := hlt r h; omega))).1.trans (hOa9 r (hlt r h))) (fun r h => (hOC.2 r (hlt r h)).trans ((rdC_o (by have := hlt r h; omega) (by have := hlt r h; omega)).trans (hOc9 r (hlt r h))))
    exact a_zret hCK hQ hr hlk hG hS (by omega) (by omega) (by decide) dX0_rules_24 (Or.inr ⟨hR, rfl, rfl, rfl, rfl⟩)
