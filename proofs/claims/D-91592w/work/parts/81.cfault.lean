/-! THE COMPONENT: fault -/
set_option maxRecDepth 100000

def rdC (E : Nat → ClassId) (adK ad : Nat → Nat) (C : Nat → va_E) : Nat → va_E := fun q => if q = 6001 then .inl (E 8, 2, ar (fun j => some (adK (1 + j)))) else if q = 6002 then .inl (E 8, 7, ar (fun j => some (adK (3 + j)))) else C q
theorem rdC_o {E : Nat → ClassId} {adK ad : Nat → Nat} {C : Nat → va_E} {q : Nat} (h1 : q ≠ 6001) (h2 : q ≠ 6002) : rdC E adK ad C q = C q := by
  unfold rdC
  rw [if_neg h1, if_neg h2]
/-- the reader's world as it begins -/
theorem rd_start {E : Nat → ClassId} {D : va_G} {A : Nat → Prop} {H : Heap} {adK : Nat → Nat} {x : Int → Int} {n : Int} {V0 V1 : Nat → Prop} {ad1 : Nat → Nat} {C1 : Nat → va_E} {cs0 : Int → Int} (h0 : ∀ q, 6000 ≤ q → ¬ V0 q) (hV : ∀ q, V1 q ↔ (V0 q ∨ (6000 ≤ q ∧ q ≤ 6005))) (hG : GW D A V1 ad1 C1 H) (v1 : V0 1) (k1 : C1 1 = .inl (E 1, 300, ai x))
    (k6 : C1 6000 = .inr (8, [.ref (ad1 6001), .ref (ad1 6002), .ref (ad1 1), .int (iI n), .ref (ad1 6003), .ref (ad1 6005), .int (iI 0), .int (iI 0), .int (iI 0), .int (iI 0), .int (iI (-1))])) (k61 : C1 6001 = .inl (E 8, 2, ar (va_up (va_up (fun _ => none) 0 (some (adK 1))) 1 (some (adK 2))))) (k62 : C1 6002 = .inl (E 8, 7, ar (va_up (va_up (va_up (va_up (va_up (va_up (va_up (fun _ => none) 0 (some (adK 3))) 1 (some (adK 4))) 2 (some (adK 5))) 3 (some (adK 6))) 4 (some (adK 7))) 5 (some (adK 8))) 6 (some (adK 9))))) (k63 : C1 6003 = .inr (10, [.int (iI 0), .ref (ad1 6004), .int (iI 0)])) (k64 : C1 6004 = .inl (E 5, 8, ar (fun _ => none))) (k65 : C1 6005 = .inl (E 7, 2, ar (fun _ => none))) :
    GW D A V1 ad1 (rdC E adK ad1 C1) H ∧ RD E adK x n V1 ad1 (rdC E adK ad1 C1) 0 0 0 0 (-1) 0 8 0 [] ∧ CL E V1 ad1 (rdC E adK ad1 C1) (fun _ => -1) cs0 0 := by
  have hv : ∀ q, 6000 ≤ q → q ≤ 6005 → V1 q := fun q a b => (hV q).mpr (Or.inr ⟨a, b⟩)
  have hn : ∀ q, 6005 < q → ¬ V1 q := fun q a b => by
    rcases (hV q).mp b with h | h
    · exact h0 q (by omega) h
    · omega
  refine ⟨hG.cgE (fun r h => h) (fun r h => ?_), ?_, ?_⟩
  · by_cases c1 : r = 6001
    · subst c1
      rw [k61]
      refine cEq_r (fun j hj => ?_)
      rcases (show j = 0 ∨ j = 1 by omega) with rfl | rfl <;> rfl
    by_cases c2 : r = 6002
    · subst c2
      rw [k62]
      refine cEq_r (fun j hj => ?_)
      rcases (show j = 0 ∨ j = 1 ∨ j = 2 ∨ j = 3 ∨ j = 4 ∨ j = 5 ∨ j = 6 by omega) with rfl | rfl | rfl | rfl | rfl | rfl | rfl <;> rfl
    exact Or.inl (rdC_o c1 c2).symm
  · refine ⟨⟨(hV 1).mpr (Or.inl v1), (rdC_o (by decide) (by decide)).trans k1⟩, ⟨hv _ (by decide) (by decide), (rdC_o (by decide) (by decide)).trans k6⟩, ⟨hv _ (by decide) (by decide), rfl⟩, ⟨hv _ (by decide) (by decide), rfl⟩, ⟨hv _ (by decide) (by decide), (rdC_o (by decide) (by decide)).trans k63⟩, ⟨hv _ (by decide) (by decide), (rdC_o (by decide) (by decide)).trans ?_⟩, fun j hj => absurd hj (Nat.not_lt_zero _), ⟨hn _ (by decide), fun j _ => hn _ (by omega)⟩, Nat.le_refl _, Nat.zero_le _, by decide, by decide⟩
    rw [k64]
    congr 4
  · refine ⟨⟨hv _ (by decide) (by decide), (rdC_o (by decide) (by decide)).trans ?_⟩, fun j hj => Or.inl ⟨rfl, hn _ (by omega)⟩⟩
    rw [k65]
    congr 4
    funext j
    unfold clF
    rw [if_neg (fun q => q.2 rfl)]
theorem dX0_fault_0 : decode cX0_fault 0 = .ok (.new 105, 3) := by decide +kernel
theorem dX0_fault_3 : decode cX0_fault 3 = .ok (.dup, 1) := by decide +kernel
theorem dX0_fault_4 : decode cX0_fault 4 = .ok (.aload_n 0, 1) := by decide +kernel
theorem dX0_fault_5 : decode cX0_fault 5 = .ok (.getfield 18, 3) := by decide +kernel
theorem dX0_fault_8 : decode cX0_fault 8 = .ok (.aload_n 0, 1) := by decide +kernel
theorem dX0_fault_9 : decode cX0_fault 9 = .ok (.getfield 95, 3) := by decide +kernel
theorem dX0_fault_12 : decode cX0_fault 12 = .ok (.invokespecial 107, 3) := by decide +kernel
theorem dX0_fault_15 : decode cX0_fault 15 = .ok (.astore_n 1, 1) := by decide +kernel
theorem dX0_fault_16 : decode cX0_fault 16 = .ok (.aload_n 1, 1) := by decide +kernel
theorem dX0_fault_17 : decode cX0_fault 17 = .ok (.invokevirtual 110, 3) := by decide +kernel
theorem dX0_fault_20 : decode cX0_fault 20 = .ok (.astore_n 2, 1) := by decide +kernel
theorem dX0_fault_21 : decode cX0_fault 21 = .ok (.aload_n 1, 1) := by decide +kernel
theorem dX0_fault_22 : decode cX0_fault 22 = .ok (.getfield 114, 3) := by decide +kernel
theorem dX0_fault_25 : decode cX0_fault 25 = .ok (.ireturn, 1) := by decide +kernel
set_option maxHeartbeats 4000000 in
theorem cfault (l : Launch) (adK adV st : Nat → Nat) (D : va_G) (E : Nat → ClassId) (A : Nat → Prop) (ad nv : Nat → Nat) (I : Nat → Int) (F : Nat → Int → Int) (S : Nat → Nat → Int) (Y : Nat → Int → Int) (L : Nat → Nat) (hn48 : 0 ≤ I 48 ∧ I 48 ≤ 300) (hbt : Bd (F 47) 300 (-128) 127) : AM l yX0_fault cX0_fault 3 (some .int) (amr 72 2106 12033) adK adV st D E A [.ref (ad 0)] (cV nv F S) ad (cC E ad I F S Y L) (AQi D E A (fun z ad1 V1 C1 => (if (rwS (F 47) (I 48) 3 0 [] 0 (fun _ => -1) (fun _ => 0)).1 = true then -1 else tF (F 47) (I 48) (rwS (F 47) (I 48) 3 0 [] 0 (fun _ => -1) (fun _ => 0)).2.1) = z ∧ ad = ad1 ∧ V1 = cV nv F S ∧ C1 = cC E ad I F S Y L)) 2106 12033 := by
  refine a_start (by decide) rfl (Nat.le_of_ble_eq_true rfl) ?_
  intro p e R s m args below meth c ls Q hR hQ hCK hml hr hlk hnme hG hS hE hA hl
  have hx := hCK.1
  have hb := hCK.2.1
  have hown := hCK.2.2.1
  have hts := hCK.2.2.2.1
  have hK := hCK.2.2.2.2
  have hl : lv_has ls 3 [(0, .ref (ad 0))] := hl
  have v_mn : cV nv F S 0 := Or.inl (by decide)
  have e_mn : ad 0 = ad 0 := rfl
  have k_mn : cC E ad I F S Y L 0 = .inr (0, [.ref (ad 1), .int (iI (I 48)), (if S 0 2 = 0 then .null else .ref (ad 30)), .ref (ad 2), .ref (ad 3), .ref (ad 11), .ref (ad 12), .ref (ad 13), .ref (ad 14), .ref (ad 4), .ref (ad 5), .int (iI (I 15)), .int (iI (I 22)), .int (iI (I 23)), .int (iI (I 24)), .int (iI (I 25)), .ref (ad 19), .ref (ad 20), .ref (ad 9), .ref (ad 6), .ref (ad 7), .ref (ad 10), .int (iI (I 41)), .int (iI (I 44)), .ref (ad 8), .int (iI (I 45))]) := cC_0
  have v_mn0 := v_mn
  have h6000 : ∀ q, 6000 ≤ q → ¬ cV nv F S q := by
    intro q hq h
    unfold cV at h
    omega
  have hOa : ∀ q, (q ≠ 6000) → ad q = ad q := fun _ _ => rfl
  have hOc : ∀ q, (q ≠ 6000) → cC E ad I F S Y L q = cC E ad I F S Y L q := fun _ _ => rfl
  refine a_new (ci := 8) (fs := [.null, .null, .null, .int (iI 0), .null, .null, .int (iI 0), .int (iI 0), .int (iI 0), .int (iI 0), .int (iI 0)]) tyX9 hCK hG hS hA 6000 in_X9 tyX9_ok q303 q304 q86 rfl (by decide) (by rw [hR]; show _ ≤ _; (try unfold amr); (try simp only []); omega) (by rw [hR]; show _ ≤ _; (try unfold amr); (try simp only []); omega) dX0_fault_0 (fun x1 ad2 C3 H e_ob k_ob oo6 hG hS oh7 => ?_)
  obtain ⟨V8, hV8⟩ : ∃ X : Nat → Prop, X = fun q => (cV nv F S) q ∨ q = 6000 := ⟨_, rfl⟩
  rw [← hV8] at hG
  have v_mn : V8 0 := by rw [hV8]; exact Or.inl v_mn
  have e_mn : ad2 0 = ad 0 := (oo6 0 (by omega)).1.trans e_mn
  have k_mn : C3 0 = .inr (0, [.ref (ad 1), .int (iI (I 48)), (if S 0 2 = 0 then .null else .ref (ad 30)), .ref (ad 2), .ref (ad 3), .ref (ad 11), .ref (ad 12), .ref (ad 13), .ref (ad 14), .ref (ad 4), .ref (ad 5), .int (iI (I 15)), .int (iI (I 22)), .int (iI (I 23)), .int (iI (I 24)), .int (iI (I 25)), .ref (ad 19), .ref (ad 20), .ref (ad 9), .ref (ad 6), .ref (ad 7), .ref (ad 10), .int (iI (I 41)), .int (iI (I 44)), .ref (ad 8), .int (iI (I 45))]) := (oo6 0 (by omega)).2.trans k_mn
  have v_ob : V8 6000 := by rw [hV8]; exact Or.inr rfl
  have hOa : ∀ q, (q ≠ 6000) → ad2 q = ad q := fun q hq => (oo6 q (by omega)).1.trans (hOa q hq)
  have hOc : ∀ q, (q ≠ 6000) → C3 q = (cC E ad I F S Y L) q := fun q hq => (oo6 q (by omega)).2.trans (hOc q hq)
  refine lv_dup hx hb dX0_fault_3 rfl ?_
  refine lv_aload_n hx hb dX0_fault_4 rfl (lv_at hl 0 rfl) ?_
  refine a_get hCK hG 0 e_mn v_mn k_mn (ci := 0) rfl in_X0 0 (by decide) q194 rfl rfl dX0_fault_5 ?_
  refine W.eq (g2 := F0 m 8 ls [.ref (ad 1), .ref x1, .ref x1]) rfl ?_
  refine lv_aload_n hx hb dX0_fault_8 rfl (lv_at hl 0 rfl) ?_
  refine a_get hCK hG 0 e_mn v_mn k_mn (ci := 0) rfl in_X0 1 (by decide) q195 rfl rfl dX0_fault_9 ?_
  refine W.eq (g2 := F0 m 12 ls [.int (iI (I 48)), .ref (ad 1), .ref x1, .ref x1]) rfl ?_
  have hM := met_rinit l adK adV st D E A V8 ad2 C3 x1 (ad 1) (I 48) v_ob e_ob k_ob
  refine a_callv (a_runI (n := 2) (b := x1) (rest := [.ref x1]) (as := [.ref (ad 1), .int (iI (I 48))]) hCK hE hA hml (hM) q305 q306 q86 q307 rfl (by decide +kernel) ⟨rfl, rfl⟩ hR ⟨Nat.le_of_ble_eq_true rfl, Nat.le_of_ble_eq_true rfl⟩ ⟨(by rw [hR]; show _ ≤ _; (try unfold amr); (try simp only []); omega), (by rw [hR]; show _ ≤ _; (try unfold amr); (try simp only []); omega)⟩ hG hS rfl hl.1 rfl (Nat.le_of_ble_eq_true rfl) dX0_fault_12) hS (fun ad10 V11 C12 H locs hp13 hG hS => ?_)
  obtain ⟨hV9, oa9, oc9, k6, k61, k62, k63, k64, k65⟩ := hp13
  have e_mn : ad10 0 = ad 0 := (oa9 0 (by omega)).trans e_mn
  have k_mn : C12 0 = .inr (0, [.ref (ad 1), .int (iI (I 48)), (if S 0 2 = 0 then .null else .ref (ad 30)), .ref (ad 2), .ref (ad 3), .ref (ad 11), .ref (ad 12), .ref (ad 13), .ref (ad 14), .ref (ad 4), .ref (ad 5), .int (iI (I 15)), .int (iI (I 22)), .int (iI (I 23)), .int (iI (I 24)), .int (iI (I 25)), .ref (ad 19), .ref (ad 20), .ref (ad 9), .ref (ad 6), .ref (ad 7), .ref (ad 10), .int (iI (I 41)), .int (iI (I 44)), .ref (ad 8), .int (iI (I 45))]) := (oc9 0 (by omega)).trans k_mn
  have e_tx : ad10 1 = ad 1 := (oa9 1 (by omega)).trans (hOa 1 (by omega))
  have e_rd : ad10 6000 = x1 := (oa9 6000 (by omega)).trans e_ob
  have hVV : ∀ q, V11 q ↔ (cV nv F S q ∨ (6000 ≤ q ∧ q ≤ 6005)) := by
    intro q
    rw [hV9, hV8]
    constructor
    · rintro ((h | h) | h)
      · exact Or.inl h
      · exact Or.inr (by omega)
      · exact Or.inr (by omega)
    · rintro (h | h)
      · exact Or.inl (Or.inl h)
      · by_cases c : q = 6000
        · exact Or.inl (Or.inr c)
        · exact Or.inr (by omega)
  have hOa9 : ∀ q, q < 6000 → ad10 q = ad q := fun q hq => (oa9 q (by omega)).trans (hOa q (by omega))
  have hOc9 : ∀ q, q < 6000 → C12 q = cC E ad I F S Y L q := fun q hq => (oc9 q (by omega)).trans (hOc q (by omega))
  rw [← e_tx] at k6
  obtain ⟨hG, hRD, hCL⟩ := rd_start (cs0 := fun _ => 0) h6000 hVV hG (Or.inl (by decide)) ((hOc9 1 (by decide)).trans (cC_a (by decide))) k6 k61 k62 k63 k64 k65
  have v_rd : V11 6000 := hRD.2.1.1
  have k_rd := hRD.2.1.2
  refine lv_astore_n (lv' := [(1, .ref x1), (0, .ref (ad 0))]) hx hb dX0_fault_15 rfl hl (by decide) rfl (fun ls hl => ?_)
  refine lv_aload_n hx hb dX0_fault_16 rfl (lv_at hl 0 rfl) ?_
  have hM := met_rreads l adK adV st D E A V11 ad10 (rdC E adK ad10 C12) (F 47) (I 48) hn48 hbt 0 0 0 0 8 (fun _ => 0) hRD hCL
  rw [e_rd] at hM
  refine a_callw (a_runV (n := 0) (C0 := RX9) (b := x1) (rest := []) (as := []) hCK hE hA hml (hM) (by have h := g_rec (r := 6000) (ci := 8) hK hG v_rd rfl k_rd; rw [e_rd] at h; exact h) q359 q360 q361 q86 q362 (by decide +kernel) ⟨rfl, rfl⟩ hR ⟨Nat.le_of_ble_eq_true rfl, Nat.le_of_ble_eq_true rfl⟩ ⟨(by rw [hR]; show _ ≤ _; (try unfold amr); (try simp only []); omega), (by rw [hR]; show _ ≤ _; (try unfold amr); (try simp only []); omega)⟩ hG hS rfl hl.1 rfl (Nat.le_of_ble_eq_true rfl) dX0_fault_17) hS (fun z14 ad15 V16 C17 H locs hp18 hG hS => ?_)
  obtain ⟨hOC, hcs⟩ := hp18
  have hlt : ∀ r, cV nv F S r → r < 6000 := fun r h => Nat.lt_of_not_le (fun q => h6000 r q h)
  have e_rd2 : ad15 6000 = x1 := (hOC.1 6000 (Or.inl (by decide))).1.trans e_rd
  rcases hcs with ⟨hR, rfl, k1, fr1, to1, vl1, mo1, cap1, b1, hRD2, hCL2, hlen2⟩ | ⟨hR, rfl, v_rd, k1, fr1, to1, vl1, rk1, k_rd⟩
  · have v_rd : V16 6000 := hRD2.2.1.1
    have k_rd := hRD2.2.1.2
    have e_rd := e_rd2
    refine lv_astore_n (lv' := [(2, .ref (ad15 6005)), (1, .ref x1), (0, .ref (ad 0))]) hx hb dX0_fault_20 rfl hl (by decide) rfl (fun ls hl => ?_)
    refine lv_aload_n hx hb dX0_fault_21 rfl (lv_at hl 1 rfl) ?_
    refine a_getN hCK hE hG 6000 e_rd v_rd k_rd (ci := 8) rfl in_X9 10 (by decide) q335 rfl rfl dX0_fault_22 ?_
    refine W.eq (g2 := F0 m 25 ls [.int (iI (-1))]) rfl ?_
    have hG := hG.back (V := cV nv F S) (ad := ad) (C := cC E ad I F S Y L) (fun r h => (hOC.1 r (Or.inl (by have := hlt r h; omega))).2.mpr ((hVV r).mpr (Or.inl h))) (fun r h => (hOC.1 r (Or.inl (by have := hlt r h; omega))).1.trans (hOa9 r (hlt r h))) (fun r h => (hOC.2 r (hlt r h)).trans ((rdC_o (by have := hlt r h; omega) (by have := hlt r h; omega)).trans (hOc9 r (hlt r h))))
    exact a_iret hCK hQ hr hlk hG hS (by omega) (by omega) dX0_fault_25 (⟨if_pos hR, rfl, rfl, rfl⟩)
  · have e_rd := e_rd2
    refine lv_astore_nN (lv' := [(2, .null), (1, .ref x1), (0, .ref (ad 0))]) hx hb dX0_fault_20 rfl hl (by decide) rfl (fun ls hl => ?_)
    refine lv_aload_n hx hb dX0_fault_21 rfl (lv_at hl 1 rfl) ?_
    refine a_getN hCK hE hG 6000 e_rd v_rd k_rd (ci := 8) rfl in_X9 10 (by decide) q335 rfl rfl dX0_fault_22 ?_
    refine W.eq (g2 := F0 m 25 ls [.int (iI (tF (F 47) (I 48) (rwS (F 47) (I 48) 3 0 [] 0 (fun _ => -1) (fun _ => 0)).2.1))]) rfl ?_
    have hG := hG.back (V := cV nv F S) (ad := ad) (C := cC E ad I F S Y L) (fun r h => (hOC.1 r (Or.inl (by have := hlt r h; omega))).2.mpr ((hVV r).mpr (Or.inl h))) (fun r h => (hOC.1 r (Or.inl (by have := hlt r h; omega))).1.trans (hOa9 r (hlt r h))) (fun r h => (hOC.2 r (hlt r h)).trans ((rdC_o (by have := hlt r h; omega) (by have := hlt r h; omega)).trans (hOc9 r (hlt r h))))
    exact a_iret hCK hQ hr hlk hG hS (by omega) (by omega) dX0_fault_25 (⟨if_neg (by rw [hR]; decide), rfl, rfl, rfl⟩)
