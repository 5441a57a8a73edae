/-! THE READER: a clause -/
set_option maxRecDepth 100000
theorem dX9_clause_0 : decode cX9_clause 0 = .ok (.aload_n 0, 1) := by decide +kernel
theorem dX9_clause_1 : decode cX9_clause 1 = .ok (.aload_n 0, 1) := by decide +kernel
theorem dX9_clause_2 : decode cX9_clause 2 = .ok (.getfield 15, 3) := by decide +kernel
theorem dX9_clause_5 : decode cX9_clause 5 = .ok (.invokevirtual 138, 3) := by decide +kernel
theorem dX9_clause_8 : decode cX9_clause 8 = .ok (.istore_n 1, 1) := by decide +kernel
theorem dX9_clause_9 : decode cX9_clause 9 = .ok (.aload_n 0, 1) := by decide +kernel
theorem dX9_clause_10 : decode cX9_clause 10 = .ok (.iload_n 1, 1) := by decide +kernel
theorem dX9_clause_11 : decode cX9_clause 11 = .ok (.iconst (-1), 1) := by decide +kernel
theorem dX9_clause_12 : decode cX9_clause 12 = .ok (.if_icmp .eq 16, 3) := by decide +kernel
theorem dX9_clause_15 : decode cX9_clause 15 = .ok (.aload_n 0, 1) := by decide +kernel
theorem dX9_clause_16 : decode cX9_clause 16 = .ok (.getfield 49, 3) := by decide +kernel
theorem dX9_clause_19 : decode cX9_clause 19 = .ok (.iload_n 1, 1) := by decide +kernel
theorem dX9_clause_20 : decode cX9_clause 20 = .ok (.aaload, 1) := by decide +kernel
theorem dX9_clause_21 : decode cX9_clause 21 = .ok (.ifnonnull 7, 3) := by decide +kernel
theorem dX9_clause_24 : decode cX9_clause 24 = .ok (.iconst 1, 1) := by decide +kernel
theorem dX9_clause_25 : decode cX9_clause 25 = .ok (.goto 4, 3) := by decide +kernel
theorem dX9_clause_28 : decode cX9_clause 28 = .ok (.iconst 0, 1) := by decide +kernel
theorem dX9_clause_29 : decode cX9_clause 29 = .ok (.invokevirtual 126, 3) := by decide +kernel
theorem dX9_clause_32 : decode cX9_clause 32 = .ok (.ifCond .ne 5, 3) := by decide +kernel
theorem dX9_clause_35 : decode cX9_clause 35 = .ok (.iconst 0, 1) := by decide +kernel
theorem dX9_clause_36 : decode cX9_clause 36 = .ok (.ireturn, 1) := by decide +kernel
theorem dX9_clause_37 : decode cX9_clause 37 = .ok (.aload_n 0, 1) := by decide +kernel
theorem dX9_clause_38 : decode cX9_clause 38 = .ok (.getfield 43, 3) := by decide +kernel
theorem dX9_clause_41 : decode cX9_clause 41 = .ok (.invokevirtual 157, 3) := by decide +kernel
theorem dX9_clause_44 : decode cX9_clause 44 = .ok (.aload_n 0, 1) := by decide +kernel
theorem dX9_clause_45 : decode cX9_clause 45 = .ok (.iconst 0, 1) := by decide +kernel
theorem dX9_clause_46 : decode cX9_clause 46 = .ok (.invokevirtual 154, 3) := by decide +kernel
theorem dX9_clause_49 : decode cX9_clause 49 = .ok (.ifCond .eq 12, 3) := by decide +kernel
theorem dX9_clause_52 : decode cX9_clause 52 = .ok (.aload_n 0, 1) := by decide +kernel
theorem dX9_clause_53 : decode cX9_clause 53 = .ok (.getfield 70, 3) := by decide +kernel
theorem dX9_clause_56 : decode cX9_clause 56 = .ok (.bipush 59, 2) := by decide +kernel
theorem dX9_clause_58 : decode cX9_clause 58 = .ok (.if_icmp .eq 9, 3) := by decide +kernel
theorem dX9_clause_61 : decode cX9_clause 61 = .ok (.aload_n 0, 1) := by decide +kernel
theorem dX9_clause_62 : decode cX9_clause 62 = .ok (.iconst 0, 1) := by decide +kernel
theorem dX9_clause_63 : decode cX9_clause 63 = .ok (.invokevirtual 126, 3) := by decide +kernel
theorem dX9_clause_66 : decode cX9_clause 66 = .ok (.ireturn, 1) := by decide +kernel
theorem dX9_clause_67 : decode cX9_clause 67 = .ok (.aload_n 0, 1) := by decide +kernel
theorem dX9_clause_68 : decode cX9_clause 68 = .ok (.getfield 49, 3) := by decide +kernel
theorem dX9_clause_71 : decode cX9_clause 71 = .ok (.iload_n 1, 1) := by decide +kernel
theorem dX9_clause_72 : decode cX9_clause 72 = .ok (.aload_n 0, 1) := by decide +kernel
theorem dX9_clause_73 : decode cX9_clause 73 = .ok (.getfield 43, 3) := by decide +kernel
theorem dX9_clause_76 : decode cX9_clause 76 = .ok (.invokevirtual 160, 3) := by decide +kernel
theorem dX9_clause_79 : decode cX9_clause 79 = .ok (.anewarray 163, 3) := by decide +kernel
theorem dX9_clause_82 : decode cX9_clause 82 = .ok (.aastore, 1) := by decide +kernel
theorem dX9_clause_83 : decode cX9_clause 83 = .ok (.iconst 0, 1) := by decide +kernel
theorem dX9_clause_84 : decode cX9_clause 84 = .ok (.istore_n 2, 1) := by decide +kernel
theorem dX9_clause_85 : decode cX9_clause 85 = .ok (.iload_n 2, 1) := by decide +kernel
theorem dX9_clause_86 : decode cX9_clause 86 = .ok (.aload_n 0, 1) := by decide +kernel
theorem dX9_clause_87 : decode cX9_clause 87 = .ok (.getfield 43, 3) := by decide +kernel
theorem dX9_clause_90 : decode cX9_clause 90 = .ok (.invokevirtual 160, 3) := by decide +kernel
theorem dX9_clause_93 : decode cX9_clause 93 = .ok (.if_icmp .ge 28, 3) := by decide +kernel
theorem dX9_clause_96 : decode cX9_clause 96 = .ok (.aload_n 0, 1) := by decide +kernel
theorem dX9_clause_97 : decode cX9_clause 97 = .ok (.getfield 49, 3) := by decide +kernel
theorem dX9_clause_100 : decode cX9_clause 100 = .ok (.iload_n 1, 1) := by decide +kernel
theorem dX9_clause_101 : decode cX9_clause 101 = .ok (.aaload, 1) := by decide +kernel
theorem dX9_clause_102 : decode cX9_clause 102 = .ok (.iload_n 2, 1) := by decide +kernel
theorem dX9_clause_103 : decode cX9_clause 103 = .ok (.aload_n 0, 1) := by decide +kernel
theorem dX9_clause_104 : decode cX9_clause 104 = .ok (.getfield 43, 3) := by decide +kernel
theorem dX9_clause_107 : decode cX9_clause 107 = .ok (.iload_n 2, 1) := by decide +kernel
theorem dX9_clause_108 : decode cX9_clause 108 = .ok (.invokevirtual 165, 3) := by decide +kernel
theorem dX9_clause_111 : decode cX9_clause 111 = .ok (.checkcast 163, 3) := by decide +kernel
theorem dX9_clause_114 : decode cX9_clause 114 = .ok (.aastore, 1) := by decide +kernel
theorem dX9_clause_115 : decode cX9_clause 115 = .ok (.iinc 2 1, 3) := by decide +kernel
theorem dX9_clause_118 : decode cX9_clause 118 = .ok (.goto (-33), 3) := by decide +kernel
theorem dX9_clause_121 : decode cX9_clause 121 = .ok (.aload_n 0, 1) := by decide +kernel
theorem dX9_clause_122 : decode cX9_clause 122 = .ok (.iconst 1, 1) := by decide +kernel
theorem dX9_clause_123 : decode cX9_clause 123 = .ok (.invokevirtual 126, 3) := by decide +kernel
theorem dX9_clause_126 : decode cX9_clause 126 = .ok (.ireturn, 1) := by decide +kernel
set_option maxHeartbeats 4000000 in
theorem met_clause (l : Launch) (adK adV st : Nat → Nat) (D : va_G) (E : Nat → ClassId) (A : Nat → Prop) (V : Nat → Prop) (ad : Nat → Nat) (C : Nat → va_E) (x : Int → Int) (n : Int) (hn : 0 ≤ n ∧ n ≤ 300) (hbx : Bd x 300 (-128) 127) (p vl mo : Int) (cap b0 : Nat) (all : List (Int × Int)) (bg cs : Int → Int) (hRD : RD E adK x n V ad C (kC x n p) (tF x n p) (tT x n p) vl (-1) mo cap b0 all) (hNA : numAt x n p vl) (hp : 0 ≤ p ∧ p ≤ n) (hal : (all.length : Int) ≤ p) (hCL : CL E V ad C bg cs all.length) (hbg : Bd bg 2 (-1) 300) (htk : tK x n p ≠ 0) : AM l yX9_clause cX9_clause 3 (some .boolean) (amr 70 700 4000) adK adV st D E A [.ref (ad 6000)] V ad C (AQi D E A (fun z ad1 V1 C1 => OC V ad C V1 ad1 C1 ∧ (((tK x n p = 2 ∧ (0 ≤ tV x n p ∧ tV x n p ≤ 1) ∧ bg (tV x n p) = -1) ∧ ((ps x n 3000 6 (0 : Int) (tT x n p)).1 = true ∧ tK x n (ps x n 3000 6 (0 : Int) (tT x n p)).2.1 = 3 ∧ tV x n (ps x n 3000 6 (0 : Int) (tT x n p)).2.1 = 59) ∧ 1 = z ∧ (∃ vl1 mo1 cap1, RD E adK x n V1 ad1 C1 (kC x n (tT x n (ps x n 3000 6 (0 : Int) (tT x n p)).2.1)) (tF x n (tT x n (ps x n 3000 6 (0 : Int) (tT x n p)).2.1)) (tT x n (tT x n (ps x n 3000 6 (0 : Int) (tT x n p)).2.1)) vl1 (-1) mo1 cap1 all.length (all ++ (ps x n 3000 6 (0 : Int) (tT x n p)).2.2) ∧ numAt x n (tT x n (ps x n 3000 6 (0 : Int) (tT x n p)).2.1) vl1) ∧ CL E V1 ad1 C1 (updZ bg (tV x n p) all.length) (updZ cs (tV x n p) (all ++ (ps x n 3000 6 (0 : Int) (tT x n p)).2.2).length) (all ++ (ps x n 3000 6 (0 : Int) (tT x n p)).2.2).length) ∨ ((tK x n p = 2 ∧ (0 ≤ tV x n p ∧ tV x n p ≤ 1) ∧ bg (tV x n p) = -1) ∧ ¬ ((ps x n 3000 6 (0 : Int) (tT x n p)).1 = true ∧ tK x n (ps x n 3000 6 (0 : Int) (tT x n p)).2.1 = 3 ∧ tV x n (ps x n 3000 6 (0 : Int) (tT x n p)).2.1 = 59) ∧ 0 = z ∧ (V1 6000 ∧ ∃ k1 fr1 to1 vl1, R32 k1 ∧ C1 6000 = .inr (8, [.ref (ad1 6001), .ref (ad1 6002), .ref (ad1 1), .int (iI n), .ref (ad1 6003), .ref (ad1 6005), .int (iI k1), .int (iI fr1), .int (iI to1), .int (iI vl1), .int (iI (tF x n ((ps x n 3000 6 (0 : Int) (tT x n p)).2.1)))]))) ∨ (¬ (tK x n p = 2 ∧ (0 ≤ tV x n p ∧ tV x n p ≤ 1) ∧ bg (tV x n p) = -1) ∧ 0 = z ∧ (V1 6000 ∧ ∃ k1 fr1 to1 vl1, R32 k1 ∧ C1 6000 = .inr (8, [.ref (ad1 6001), .ref (ad1 6002), .ref (ad1 1), .int (iI n), .ref (ad1 6003), .ref (ad1 6005), .int (iI k1), .int (iI fr1), .int (iI to1), .int (iI vl1), .int (iI (tF x n p))])))))) 700 4000 := by
  refine a_start (by decide) rfl (Nat.le_of_ble_eq_true rfl) ?_
  intro pp e R s m args below meth c ls Q hR hQ hCK hml hr hlk hnme hG hS hE hA hl
  have hx := hCK.1
  have hb := hCK.2.1
  have hown := hCK.2.2.1
  have hts := hCK.2.2.2.1
  have hK := hCK.2.2.2.2
  have hl : lv_has ls 3 [(0, .ref (ad 6000))] := hl
  have hOT : OT all.length V ad C V ad C := OT.rf
  have htb := tB (x := x) hp
  have v_rd : V 6000 := hRD.2.1.1
  have k_rd : C 6000 = .inr (8, [.ref (ad 6001), .ref (ad 6002), .ref (ad 1), .int (iI n), .ref (ad 6003), .ref (ad 6005), .int (iI (kC x n p)), .int (iI (tF x n p)), .int (iI (tT x n p)), .int (iI vl), .int (iI (-1))]) := hRD.2.1.2
  have e_rd : ad 6000 = ad 6000 := (hOT 6000 (Or.inl (by decide))).1
  have v_tx : V 1 := hRD.1.1
  have k_tx : C 1 = .inl (E 1, 300, ai x) := hRD.1.2
  refine lv_aload_n hx hb dX9_clause_0 rfl (lv_at hl 0 rfl) ?_
  refine lv_aload_n hx hb dX9_clause_1 rfl (lv_at hl 0 rfl) ?_
  refine a_get hCK hG 6000 e_rd v_rd k_rd (ci := 8) rfl in_X9 0 (by decide) q324 rfl rfl dX9_clause_2 ?_
  refine W.eq (g2 := F0 m 5 ls [.ref (ad 6001), .ref (ad 6000)]) rfl ?_
  have hM := met_wof l adK adV st D E A V ad C x n (kC x n p) (tF x n p) (tT x n p) vl (-1) hn hbx v_rd k_rd v_tx k_tx (tBF hp) (kC_R _ _ _) 6001 1 2 hRD.2.2.1.1 hRD.2.2.1.2 (by decide) (by decide) (by decide)
  rw [e_rd] at hM
  refine a_calli (a_runV (n := 1) (C0 := RX9) (b := (ad 6000)) (rest := []) (as := [.ref (ad 6001)]) hCK hE hA hml (hM) (by have h := g_rec (r := 6000) (ci := 8) hK hG v_rd rfl k_rd; rw [e_rd] at h; exact h) q465 q467 qs4 q86 q468 (by decide +kernel) ⟨rfl, rfl⟩ hR (amr_ok (by decide) (by decide)) ⟨(by rw [hR]; show _ ≤ (_ : Nat); (try unfold amr); (try simp only []); omega), (by rw [hR]; show _ ≤ (_ : Nat); (try unfold amr); (try simp only []); omega)⟩ hG hS rfl hl.1 rfl (Nat.le_of_ble_eq_true rfl) dX9_clause_5) hS (fun z1 ad2 V3 C4 H locs hp5 hG hS => ?_)
  obtain ⟨hwf, rfl, rfl, rfl⟩ := hp5
  have hwz : (z1 = -1 ∧ ¬ (tK x n p = 2 ∧ (0 ≤ tV x n p ∧ tV x n p ≤ 1))) ∨ ((0 ≤ z1 ∧ z1 < 2) ∧ tK x n p = 2 ∧ tV x n p = z1) := by
    rcases hwf with ⟨h1, h2⟩ | ⟨h1, h2, h3⟩
    · refine Or.inl ⟨h1, fun q => ?_⟩
      have hj := h2 (tV x n p).toNat (by omega)
      have hw := (tok_w (x := x) (n := n) (p := p) (k := (tV x n p).toNat) (by omega)).mpr ⟨q.1, by omega⟩
      rw [show wS (tV x n p).toNat = 1 + (tV x n p).toNat by unfold wS; rw [if_pos (by omega)]; omega] at hw
      exact hj hw
    · have hw := (tok_w (x := x) (n := n) (p := p) (k := z1.toNat) (by omega)).mp ⟨h2, by rw [show wS z1.toNat = 1 + z1.toNat by unfold wS; rw [if_pos (by omega)]; omega]; exact h3⟩
      exact Or.inr ⟨h1, hw.1, by omega⟩
  clear hwf
  have hzb : -1 ≤ z1 ∧ z1 < 2 := by omega
  refine lv_istore_n (lv' := [(1, .int (iI z1)), (0, .ref (ad 6000))]) hx hb dX9_clause_8 rfl hl (by decide) rfl (fun ls hl => ?_)
  refine lv_aload_n hx hb dX9_clause_9 rfl (lv_at hl 1 rfl) ?_
  refine lv_iload_n hx hb dX9_clause_10 rfl (lv_at hl 0 rfl) ?_
  refine r_iconst hx hb dX9_clause_11 ?_
  refine r_icmp_eq (tgt := 28) hx hb dX9_clause_12 (by decide) (by omega) (by decide) (fun c6 => ?_) (fun c6 => ?_)
  · have hnc : ¬ (tK x n p = 2 ∧ (0 ≤ tV x n p ∧ tV x n p ≤ 1) ∧ bg (tV x n p) = -1) := fun q => by omega
    clear hwz
    refine r_iconst hx hb dX9_clause_28 ?_
    have hM := met_pass l adK adV st D E A V ad C 0 (by decide) x n (kC x n p) (tF x n p) (tT x n p) vl (-1) hn hbx v_rd k_rd v_tx k_tx (tBT hp) (by decide)
    rw [e_rd] at hM
    refine a_calli (a_runV (n := 1) (C0 := RX9) (b := (ad 6000)) (rest := []) (as := [.int (iI 0)]) hCK hE hA hml (hM) (by have h := g_rec (r := 6000) (ci := 8) hK hG v_rd rfl k_rd; rw [e_rd] at h; exact h) q494 q496 qs6 q86 q497 (by decide +kernel) ⟨rfl, rfl⟩ hR (amr_ok (by decide) (by decide)) ⟨(by rw [hR]; show _ ≤ (_ : Nat); (try unfold amr); (try simp only []); omega), (by rw [hR]; show _ ≤ (_ : Nat); (try unfold amr); (try simp only []); omega)⟩ hG hS rfl hl.1 rfl (Nat.le_of_ble_eq_true rfl) dX9_clause_29) hS (fun z7 ad8 V9 C10 H locs hp11 hG hS => ?_)
    obtain ⟨rfl, rfl, rfl, hcs, o9⟩ := hp11
    have k9 := (hcs.resolve_right (fun h => absurd h.1 (by decide))).2
    rw [if_pos rfl] at k9
    have hRD := hRD.tok k9 o9
    have hOT := hOT.set o9
    have v_rd : V 6000 := hRD.2.1.1
    have k_rd : C10 6000 = .inr (8, [.ref (ad 6001), .ref (ad 6002), .ref (ad 1), .int (iI n), .ref (ad 6003), .ref (ad 6005), .int (iI (kC x n p)), .int (iI (tF x n p)), .int (iI (tT x n p)), .int (iI vl), .int (iI (tF x n p))]) := hRD.2.1.2
    have e_rd : ad 6000 = ad 6000 := (hOT 6000 (Or.inl (by decide))).1
    have v_tx : V 1 := hRD.1.1
    have k_tx : C10 1 = .inl (E 1, 300, ai x) := hRD.1.2
    refine W.eq (g2 := F0 m 32 ls [.int (iI 0)]) rfl ?_
    refine r_if_ne (tgt := 37) hx hb dX9_clause_32 (by decide) (by decide) (fun c13 => absurd c13 (fun h => h rfl)) (fun c13 => ?_)
    refine r_iconst hx hb dX9_clause_35 ?_
    exact a_zret hCK hQ hr hlk hG hS (by omega) (by omega) (by decide) dX9_clause_36 (⟨hOT.oc, Or.inr (Or.inr ⟨hnc, rfl, v_rd, _, _, _, _, kC_R _ _ _, k_rd⟩)⟩)
  · have hz2 : (0 ≤ z1 ∧ z1 < 2) ∧ tK x n p = 2 ∧ tV x n p = z1 := by omega
    have v_kc : V 6005 := hCL.1.1
    have k_kc : C 6005 = .inl (E 7, 2, ar (clF ad bg)) := hCL.1.2
    have e_kc : ad 6005 = (ad 6005) := rfl
    have ecl : clF ad bg z1.toNat = if bg z1 = -1 then none else some (ad (6006 + z1.toNat)) := by
      unfold clF
      rw [show ((z1.toNat : Nat) : Int) = z1 by omega]
      by_cases q : bg z1 = -1
      · rw [if_neg (fun h => h.2 q), if_pos q]
      · rw [if_pos ⟨by omega, q⟩, if_neg q]
    refine lv_aload_n hx hb dX9_clause_15 rfl (lv_at hl 1 rfl) ?_
    refine a_get hCK hG 6000 e_rd v_rd k_rd (ci := 8) rfl in_X9 5 (by decide) q329 rfl rfl dX9_clause_16 ?_
    refine W.eq (g2 := F0 m 19 ls [.ref (ad 6005), .ref (ad 6000)]) rfl ?_
    refine lv_iload_n hx hb dX9_clause_19 rfl (lv_at hl 0 rfl) ?_
    refine a_aldA (v := va_rf (clF ad bg z1.toNat)) hCK hG 6005 e_kc v_kc k_kc (t := 7) rfl (by decide) (by omega) rfl dX9_clause_20 ?_
    rw [ecl]
    by_cases cq : bg z1 = -1
    · rw [if_pos cq]
      refine lv_ifnonnullN hx hb dX9_clause_21 ?_
      have hcond : (tK x n p = 2 ∧ (0 ≤ tV x n p ∧ tV x n p ≤ 1) ∧ bg (tV x n p) = -1) := ⟨hz2.2.1, by omega, by rw [hz2.2.2]; exact cq⟩
      clear hwz
      refine r_iconst hx hb dX9_clause_24 ?_
      refine lv_goto (tgt := 29) hx hb dX9_clause_25 (by decide) ?_
      have hM := met_pass l adK adV st D E A V ad C 1 (by decide) x n (kC x n p) (tF x n p) (tT x n p) vl (-1) hn hbx v_rd k_rd v_tx k_tx (tBT hp) (by decide)
      rw [e_rd] at hM
      refine a_calli (a_runV (n := 1) (C0 := RX9) (b := (ad 6000)) (rest := []) (as := [.int (iI 1)]) hCK hE hA hml (hM) (by have h := g_rec (r := 6000) (ci := 8) hK hG v_rd rfl k_rd; rw [e_rd] at h; exact h) q494 q496 qs6 q86 q497 (by decide +kernel) ⟨rfl, rfl⟩ hR (amr_ok (by decide) (by decide)) ⟨(by rw [hR]; show _ ≤ (_ : Nat); (try unfold amr); (try simp only []); omega), (by rw [hR]; show _ ≤ (_ : Nat); (try unfold amr); (try simp only []); omega)⟩ hG hS rfl hl.1 rfl (Nat.le_of_ble_eq_true rfl) dX9_clause_29) hS (fun z14 ad15 V16 C17 H locs hp18 hG hS => ?_)
      obtain ⟨rfl, rfl, rfl, hcs, o9⟩ := hp18
      obtain ⟨vl19, k9, hNA⟩ := (hcs.resolve_left (fun h => absurd h.1 (by decide))).2
      have hRD := hRD.tok k9 o9
      have hOT := hOT.set o9
      have hal : (((all).length : Nat) : Int) ≤ tT x n p := hal_t hp hal
      have hp : 0 ≤ tT x n p ∧ tT x n p ≤ n := tBT hp
      have htb := tB (x := x) hp
      have v_rd : V 6000 := hRD.2.1.1
      have k_rd : C17 6000 = .inr (8, [.ref (ad 6001), .ref (ad 6002), .ref (ad 1), .int (iI n), .ref (ad 6003), .ref (ad 6005), .int (iI (kC x n (tT x n p))), .int (iI (tF x n (tT x n p))), .int (iI (tT x n (tT x n p))), .int (iI vl19), .int (iI (-1))]) := hRD.2.1.2
      have e_rd : ad 6000 = ad 6000 := (hOT 6000 (Or.inl (by decide))).1
      have v_tx : V 1 := hRD.1.1
      have k_tx : C17 1 = .inl (E 1, 300, ai x) := hRD.1.2
      refine W.eq (g2 := F0 m 32 ls [.int (iI 1)]) rfl ?_
      refine r_if_ne (tgt := 37) hx hb dX9_clause_32 (by decide) (by decide) (fun c20 => ?_) (fun c20 => absurd c20 (by decide))
      have hal := hal
      have hCL := hCL.ot hOT (Nat.le_refl _)
      have v_li : V 6003 := hRD.2.2.2.2.1.1
      have k_li : C17 6003 = .inr (10, [.int (iI mo), .ref (ad 6004), .int (iI (((all).length : Int) - (b0 : Int)))]) := hRD.2.2.2.2.1.2
      have v_ar : V 6004 := hRD.2.2.2.2.2.1.1
      have k_ar : C17 6004 = .inl (E 5, cap, ar (fun j => if b0 + j < (all).length then some (ad (7000 + (b0 + j))) else none)) := hRD.2.2.2.2.2.1.2
      have e_li : ad 6003 = (ad 6003) := rfl
      have e_ar : ad 6004 = (ad 6004) := rfl
      have hel9 : elOK V ad C17 6003 6004 (fun j => if b0 + j < all.length then some (ad (7000 + (b0 + j))) else none) := by
        intro i y hy
        have hy : (if b0 + i < all.length then some (ad (7000 + (b0 + i))) else none) = some y := hy
        by_cases cc : b0 + i < all.length
        · rw [if_pos cc] at hy
          cases hy
          have hq := hRD.2.2.2.2.2.2.1 (b0 + i) cc
          exact ⟨7000 + (b0 + i), rfl, hq.1, by omega, by omega, mkE_ob _ _ hq.2⟩
        · rw [if_neg cc] at hy
          cases hy
      refine lv_aload_n hx hb dX9_clause_37 rfl (lv_at hl 1 rfl) ?_
      refine a_get hCK hG 6000 e_rd v_rd k_rd (ci := 8) rfl in_X9 4 (by decide) q328 rfl rfl dX9_clause_38 ?_
      refine W.eq (g2 := F0 m 41 ls [.ref (ad 6003)]) rfl ?_
      have hM := met_lclear l adK adV st D E A V ad C17 6003 6004 (ad 6003) (ad 6004) cap mo ((all.length : Int) - (b0 : Int)) (fun j => if b0 + j < all.length then some (ad (7000 + (b0 + j))) else none) (by decide) v_li rfl k_li v_ar rfl k_ar (hel9) (by have := hRD.2.2.2.2.2.2.2.2.2.2; omega) (by have := hRD.2.2.2.2.2.2.2.2; omega) (fun j hj => if_neg (by have := hRD.2.2.2.2.2.2.2.2.1; omega))
      refine a_callv (a_runV (n := 0) (C0 := RJ2) (b := (ad 6003)) (rest := []) (as := []) hCK hE hA hml (hM) (by have h := g_rec (r := 6003) (ci := 10) hK hG v_li rfl k_li; rw [e_li] at h; exact h) q498 q499 q500 q71 q501 (by decide +kernel) ⟨rfl, rfl⟩ hR (amr_ok (by decide) (by decide)) ⟨(by rw [hR]; show _ ≤ (_ : Nat); (try unfold amr); (try simp only []); omega), (by rw [hR]; show _ ≤ (_ : Nat); (try unfold amr); (try simp only []); omega)⟩ hG hS rfl hl.1 rfl (Nat.le_of_ble_eq_true rfl) dX9_clause_41) hS (fun ad22 V23 C24 H locs hp25 hG hS => ?_)
      obtain ⟨rfl, rfl, kA9, kL9, o9⟩ := hp25
      have hRD := hRD.clr kL9 kA9 o9
      have hOT : OT all.length V ad C V ad C24 := fun q hq => ⟨(hOT q hq).1, (hOT q hq).2.1, fun a b => (o9 q (by omega) b).trans ((hOT q hq).2.2 a b)⟩
      have hCL : CL E V ad C24 bg cs all.length := hCL.ot (fun q hq => ⟨rfl, Iff.rfl, fun a b => o9 q (by omega) b⟩) (Nat.le_refl _)
      have v_rd : V 6000 := hRD.2.1.1
      have k_rd : C24 6000 = .inr (8, [.ref (ad 6001), .ref (ad 6002), .ref (ad 1), .int (iI n), .ref (ad 6003), .ref (ad 6005), .int (iI (kC x n (tT x n p))), .int (iI (tF x n (tT x n p))), .int (iI (tT x n (tT x n p))), .int (iI vl19), .int (iI (-1))]) := hRD.2.1.2
      have e_rd : ad 6000 = ad 6000 := (hOT 6000 (Or.inl (by decide))).1
      have v_tx : V 1 := hRD.1.1
      have k_tx : C24 1 = .inl (E 1, 300, ai x) := hRD.1.2
      have h4 := hRD.2.2.2.2.2.2.2.2.2.2.1
      have h600 := hRD.2.2.2.2.2.2.2.2.2.2.2
      obtain ⟨a, ea⟩ : ∃ a, a = ps x n 3000 6 (0 : Int) (tT x n p) := ⟨_, rfl⟩
      have l_a := ps_len x n 3000 6 (0 : Int) (tT x n p) hp.2
      rw [← ea] at l_a
      have hM := (grm_all l adK adV st D E A x n hn hbx 3000).2.2.2.1 V ad C24 (tT x n p) vl19 (mo + 1) cap all.length all 0 (by decide) hRD hNA hp (by omega) hal
      have hM : AM _ _ _ _ _ _ _ _ _ _ _ _ [.ref (ad 6000), .int (iI 0)] _ _ _ _ _ _ := hM
      rw [show all.length - all.length = 0 by omega] at hM
      have hcb := cpN_bd a.2.2.length cap 0 h4 (Nat.zero_le _)
      have hla : a.2.2.length ≤ 300 := by have := l_a.2; have := l_a.1; omega
      have hcs : csN a.2.2.length cap 0 ≤ 600 ∧ slN a.2.2.length cap 0 ≤ 3100 := by omega
      refine lv_aload_n hx hb dX9_clause_44 rfl (lv_at hl 1 rfl) ?_
      refine r_iconst hx hb dX9_clause_45 ?_
      rw [show ((0 : Nat) : Int) = 0 from rfl, ← ea, e_rd] at hM
      refine a_calli (a_runV (n := 1) (C0 := RX9) (b := (ad 6000)) (rest := []) (as := [.int (iI 0)]) hCK hE hA hml (hM) (by have h := g_rec (r := 6000) (ci := 8) hK hG v_rd rfl k_rd; rw [e_rd] at h; exact h) q502 q504 qs7 q86 q505 (by decide +kernel) ⟨rfl, rfl⟩ hR (amr_ok (by unfold LV; decide) (by decide)) ⟨(by rw [hR]; show _ ≤ (_ : Nat); (try unfold amr); (try simp only []); omega), (by rw [hR]; show _ ≤ (_ : Nat); (try unfold amr); (try simp only []); omega)⟩ hG hS rfl hl.1 rfl (Nat.le_of_ble_eq_true rfl) dX9_clause_46) hS (fun z26 ad27 V28 C29 H locs hp30 hG hS => ?_)
      obtain ⟨rfl, ⟨vl31, mo32, hRD, hNA⟩, hot9⟩ := hp30
      have hCL := hCL.ot hot9 (Nat.le_refl _)
      have hOT := hOT.tr hot9 (Nat.le_refl _)
      rw [show all.length - all.length = 0 by omega] at hRD
      have hp : 0 ≤ a.2.1 ∧ a.2.1 ≤ n := ⟨Int.le_trans hp.1 l_a.1.1, l_a.1.2⟩
      have htb := tB (x := x) hp
      have hal : (((all ++ a.2.2).length : Nat) : Int) ≤ a.2.1 := by rw [List.length_append]; exact hal_2 hal l_a.2
      have v_rd : V28 6000 := hRD.2.1.1
      have k_rd : C29 6000 = .inr (8, [.ref (ad27 6001), .ref (ad27 6002), .ref (ad27 1), .int (iI n), .ref (ad27 6003), .ref (ad27 6005), .int (iI (kC x n a.2.1)), .int (iI (tF x n a.2.1)), .int (iI (tT x n a.2.1)), .int (iI vl31), .int (iI (if a.1 = true then -1 else tF x n a.2.1))]) := hRD.2.1.2
      have e_rd : ad27 6000 = ad 6000 := (hOT 6000 (Or.inl (by decide))).1
      have v_tx : V28 1 := hRD.1.1
      have k_tx : C29 1 = .inl (E 1, 300, ai x) := hRD.1.2
      refine W.eq (g2 := F0 m 49 ls [.int (iI (if a.1 = true then 1 else 0))]) rfl ?_
      refine W.widen (k := 600) (n := 3100) (by omega) (by omega) ?_
      refine r_ifeqB (tgt := 61) hx hb dX9_clause_49 (by decide) (fun ca => ?_) (fun ca => ?_)
      · rw [if_neg ca] at k_rd hRD
        have hne : ¬ ((ps x n 3000 6 (0 : Int) (tT x n p)).1 = true ∧ tK x n (ps x n 3000 6 (0 : Int) (tT x n p)).2.1 = 3 ∧ tV x n (ps x n 3000 6 (0 : Int) (tT x n p)).2.1 = 59) := by rw [← ea]; exact fun q => ca q.1
        refine lv_aload_n hx hb dX9_clause_61 rfl (lv_at hl 1 rfl) ?_
        refine r_iconst hx hb dX9_clause_62 ?_
        have hM := met_pass l adK adV st D E A V28 ad27 C29 0 (by decide) x n (kC x n a.2.1) (tF x n a.2.1) (tT x n a.2.1) vl31 (tF x n a.2.1) hn hbx v_rd k_rd v_tx k_tx (tBT hp) (tFR hn.2 hp)
        rw [e_rd] at hM
        refine a_calli (a_runV (n := 1) (C0 := RX9) (b := (ad 6000)) (rest := []) (as := [.int (iI 0)]) hCK hE hA hml (hM) (by have h := g_rec (r := 6000) (ci := 8) hK hG v_rd rfl k_rd; rw [e_rd] at h; exact h) q494 q496 qs6 q86 q497 (by decide +kernel) ⟨rfl, rfl⟩ hR (amr_ok (by decide) (by decide)) ⟨(by rw [hR]; show _ ≤ (_ : Nat); (try unfold amr); (try simp only []); omega), (by rw [hR]; show _ ≤ (_ : Nat); (try unfold amr); (try simp only []); omega)⟩ hG hS rfl hl.1 rfl (Nat.le_of_ble_eq_true rfl) dX9_clause_63) hS (fun z33 ad34 V35 C36 H locs hp37 hG hS => ?_)
        obtain ⟨rfl, rfl, rfl, hcs, o9⟩ := hp37
        have k9 := (hcs.resolve_right (fun h => absurd h.1 (by decide))).2
        rw [ite_self] at k9
        have hRD := hRD.tok k9 o9
        have hOT := hOT.set o9
        have v_rd : V28 6000 := hRD.2.1.1
        have k_rd : C36 6000 = .inr (8, [.ref (ad27 6001), .ref (ad27 6002), .ref (ad27 1), .int (iI n), .ref (ad27 6003), .ref (ad27 6005), .int (iI (kC x n a.2.1)), .int (iI (tF x n a.2.1)), .int (iI (tT x n a.2.1)), .int (iI vl31), .int (iI (tF x n a.2.1))]) := hRD.2.1.2
        have e_rd : ad27 6000 = ad 6000 := (hOT 6000 (Or.inl (by decide))).1
        have v_tx : V28 1 := hRD.1.1
        have k_tx : C36 1 = .inl (E 1, 300, ai x) := hRD.1.2
        refine W.eq (g2 := F0 m 66 ls [.int (iI 0)]) rfl ?_
        exact a_zret hCK hQ hr hlk hG hS (by omega) (by omega) (by decide) dX9_clause_66 (⟨hOT.oc, Or.inr (Or.inl ⟨hcond, hne, rfl, by rw [← ea]; exact ⟨v_rd, _, _, _, _, kC_R _ _ _, k_rd⟩⟩)⟩)
      · rw [if_pos ca] at hRD
        have v_rd : V28 6000 := hRD.2.1.1
        have k_rd : C29 6000 = .inr (8, [.ref (ad27 6001), .ref (ad27 6002), .ref (ad27 1), .int (iI n), .ref (ad27 6003), .ref (ad27 6005), .int (iI (kC x n a.2.1)), .int (iI (tF x n a.2.1)), .int (iI (tT x n a.2.1)), .int (iI vl31), .int (iI (-1))]) := hRD.2.1.2
        have e_rd : ad27 6000 = ad 6000 := (hOT 6000 (Or.inl (by decide))).1
        have v_tx : V28 1 := hRD.1.1
        have k_tx : C29 1 = .inl (E 1, 300, ai x) := hRD.1.2
        have hkc := kC_cases x n a.2.1
        refine lv_aload_n hx hb dX9_clause_52 rfl (lv_at hl 1 rfl) ?_
        refine a_get hCK hG 6000 e_rd v_rd k_rd (ci := 8) rfl in_X9 6 (by decide) q330 rfl rfl dX9_clause_53 ?_
        refine W.eq (g2 := F0 m 56 ls [.int (iI (kC x n a.2.1))]) rfl ?_
        refine r_bipush hx hb dX9_clause_56 (by decide) ?_
        refine r_icmp_eq (tgt := 67) hx hb dX9_clause_58 (by decide) (kC_R _ _ _) (by decide) (fun c39 => ?_) (fun c39 => ?_)
        · have hk59 : tK x n a.2.1 = 3 ∧ tV x n a.2.1 = 59 := by omega
          clear hkc
          have hend : ((ps x n 3000 6 (0 : Int) (tT x n p)).1 = true ∧ tK x n (ps x n 3000 6 (0 : Int) (tT x n p)).2.1 = 3 ∧ tV x n (ps x n 3000 6 (0 : Int) (tT x n p)).2.1 = 59) := by rw [← ea]; exact ⟨ca, hk59⟩
          have v_kc : V28 6005 := hCL.1.1
          have k_kc : C29 6005 = .inl (E 7, 2, ar (clF ad27 bg)) := hCL.1.2
          have e_kc : ad27 6005 = (ad27 6005) := rfl
          have v_li : V28 6003 := hRD.2.2.2.2.1.1
          have k_li : C29 6003 = .inr (10, [.int (iI mo32), .ref (ad27 6004), .int (iI (((all ++ a.2.2).length : Int) - (all.length : Int)))]) := hRD.2.2.2.2.1.2
          have v_ar : V28 6004 := hRD.2.2.2.2.2.1.1
          have k_ar : C29 6004 = .inl (E 5, (cpN a.2.2.length cap 0), ar (fun j => if all.length + j < (all ++ a.2.2).length then some (ad27 (7000 + (all.length + j))) else none)) := hRD.2.2.2.2.2.1.2
          have e_li : ad27 6003 = (ad27 6003) := rfl
          have e_ar : ad27 6004 = (ad27 6004) := rfl
          have hOC0 := hOT.oc
          have hOa : ∀ q, (q ≠ 6006 + z1.toNat) → ad27 q = ad27 q := fun _ _ => rfl
          have hOc : ∀ q, (q ≠ 6006 + z1.toNat ∧ q ≠ 6005) → C29 q = C29 q := fun _ _ => rfl
          have hlen : (((all ++ a.2.2).length : Int) - (all.length : Int)) = ((a.2.2.length : Nat) : Int) := by rw [List.length_append]; omega
          have hzn : z1.toNat < 2 ∧ ((z1.toNat : Nat) : Int) = z1 := by omega
          have hnv : ¬ V28 (6006 + z1.toNat) := by
            rcases hCL.2 z1.toNat hzn.1 with q | q
            · exact q.2
            · exact absurd (show bg ((z1.toNat : Nat) : Int) = -1 by rw [hzn.2]; exact cq) (by omega)
          refine lv_aload_n hx hb dX9_clause_67 rfl (lv_at hl 1 rfl) ?_
          refine a_get hCK hG 6000 e_rd v_rd k_rd (ci := 8) rfl in_X9 5 (by decide) q329 rfl rfl dX9_clause_68 ?_
          refine W.eq (g2 := F0 m 71 ls [.ref (ad27 6005)]) rfl ?_
          refine lv_iload_n hx hb dX9_clause_71 rfl (lv_at hl 0 rfl) ?_
          refine lv_aload_n hx hb dX9_clause_72 rfl (lv_at hl 1 rfl) ?_
          refine a_get hCK hG 6000 e_rd v_rd k_rd (ci := 8) rfl in_X9 4 (by decide) q328 rfl rfl dX9_clause_73 ?_
          refine W.eq (g2 := F0 m 76 ls [.ref (ad27 6003), .int (iI z1), .ref (ad27 6005)]) rfl ?_
          refine s_calli (j_runV (n := 0) (C := RJ2) (b := (ad27 6003)) (rest := [.int (iI z1), .ref (ad27 6005)]) (as := []) hx hb hml hown hts ((by have h := met_lsize l adK adV st D E A V28 ad27 C29 6003 6004 mo32 (((all ++ a.2.2).length : Int) - (all.length : Int)) v_li (by rw [e_ar]; exact k_li); rw [e_li] at h; exact h)) GB.blind (GB.at hK hG hE hS) (by have h := g_rec (r := 6003) (ci := 10) hK hG v_li rfl k_li; rw [e_li] at h; exact h) q613 q614 q615 q71 q616 (by decide +kernel) ⟨rfl, rfl⟩ hR (amr_ok (by decide) (by decide)) ⟨(by rw [hR]; show _ ≤ (_ : Nat); (try unfold amr); (try simp only []); omega), (by rw [hR]; show _ ≤ (_ : Nat); (try unfold amr); (try simp only []); omega)⟩ rfl hl.1 rfl (Nat.le_of_ble_eq_true rfl) dX9_clause_76) ?_
          refine a_anew (t := 6) (N := a.2.2.length) hCK hG hS hA (6006 + z1.toNat) q617 hE.2.2.2.2.2.1.2.2.1 rfl hlen (by omega) (by rw [hR]; show _ ≤ (_ : Nat); (try unfold amr); (try simp only []); omega) (by rw [hR]; show _ ≤ (_ : Nat); (try unfold amr); (try simp only []); omega) dX9_clause_79 (fun x40 ad41 C42 H e_nw k_nw oo43 hG hS oh44 => ?_)
          obtain ⟨V45, hV45⟩ : ∃ X : Nat → Prop, X = fun q => V28 q ∨ q = 6006 + z1.toNat := ⟨_, rfl⟩
          rw [← hV45] at hG
          have v_rd : V45 6000 := by rw [hV45]; exact Or.inl v_rd
          have e_rd : ad41 6000 = (ad 6000) := (oo43 6000 (by omega)).1.trans e_rd
          have k_rd : C42 6000 = .inr (8, [.ref (ad27 6001), .ref (ad27 6002), .ref (ad27 1), .int (iI n), .ref (ad27 6003), .ref (ad27 6005), .int (iI (kC x n a.2.1)), .int (iI (tF x n a.2.1)), .int (iI (tT x n a.2.1)), .int (iI vl31), .int (iI (-1))]) := (oo43 6000 (by omega)).2.trans k_rd
          have v_kc : V45 6005 := by rw [hV45]; exact Or.inl v_kc
          have e_kc : ad41 6005 = (ad27 6005) := (oo43 6005 (by omega)).1.trans e_kc
          have k_kc : C42 6005 = .inl (E 7, 2, ar (clF ad27 bg)) := (oo43 6005 (by omega)).2.trans k_kc
          have v_li : V45 6003 := by rw [hV45]; exact Or.inl v_li
          have e_li : ad41 6003 = (ad27 6003) := (oo43 6003 (by omega)).1.trans e_li
          have k_li : C42 6003 = .inr (10, [.int (iI mo32), .ref (ad27 6004), .int (iI (((all ++ a.2.2).length : Int) - (all.length : Int)))]) := (oo43 6003 (by omega)).2.trans k_li
          have v_ar : V45 6004 := by rw [hV45]; exact Or.inl v_ar
          have e_ar : ad41 6004 = (ad27 6004) := (oo43 6004 (by omega)).1.trans e_ar
          have k_ar : C42 6004 = .inl (E 5, (cpN a.2.2.length cap 0), ar (fun j => if all.length + j < (all ++ a.2.2).length then some (ad27 (7000 + (all.length + j))) else none)) := (oo43 6004 (by omega)).2.trans k_ar
          have v_nw : V45 (6006 + z1.toNat) := by rw [hV45]; exact Or.inr rfl
          have hOa : ∀ q, (q ≠ 6006 + z1.toNat) → ad41 q = ad27 q := fun q hq => (oo43 q (by omega)).1.trans (hOa q hq)
          have hOc : ∀ q, (q ≠ 6006 + z1.toNat ∧ q ≠ 6005) → C42 q = C29 q := fun q hq => (oo43 q (by omega)).2.trans (hOc q hq)
          refine a_astA hCK hG hS 6005 e_kc v_kc k_kc (t := 7) rfl (by decide) (by omega) e_nw v_nw k_nw (arrK hCK hE) dX9_clause_82 (fun C46 H locs kk47 oo48 hG hS => ?_)
          have k_kc : C46 6005 = .inl (E 7, 2, ar (va_up (clF ad27 bg) z1.toNat (some x40))) := kk47
          have k_rd : C46 6000 = .inr (8, [.ref (ad27 6001), .ref (ad27 6002), .ref (ad27 1), .int (iI n), .ref (ad27 6003), .ref (ad27 6005), .int (iI (kC x n a.2.1)), .int (iI (tF x n a.2.1)), .int (iI (tT x n a.2.1)), .int (iI vl31), .int (iI (-1))]) := (oo48 6000 (by omega)).trans k_rd
          have k_li : C46 6003 = .inr (10, [.int (iI mo32), .ref (ad27 6004), .int (iI (((all ++ a.2.2).length : Int) - (all.length : Int)))]) := (oo48 6003 (by omega)).trans k_li
          have k_ar : C46 6004 = .inl (E 5, (cpN a.2.2.length cap 0), ar (fun j => if all.length + j < (all ++ a.2.2).length then some (ad27 (7000 + (all.length + j))) else none)) := (oo48 6004 (by omega)).trans k_ar
          have k_nw : C46 (6006 + z1.toNat) = .inl (E 6, a.2.2.length, ar (fun _ => none)) := (oo48 (6006 + z1.toNat) (by omega)).trans k_nw
          have hOa : ∀ q, (q ≠ 6006 + z1.toNat) → ad41 q = ad27 q := hOa
          have hOc : ∀ q, (q ≠ 6006 + z1.toNat ∧ q ≠ 6005) → C46 q = C29 q := fun q hq => (oo48 q (by omega)).trans (hOc q hq)
          have hRD : RD E adK x n V45 ad41 C46 (kC x n a.2.1) (tF x n a.2.1) (tT x n a.2.1) vl31 (-1) mo32 (cpN a.2.2.length cap 0) all.length (all ++ a.2.2) := hRD.cg (fun q hq => by rw [hV45]; exact ⟨fun h => h.resolve_right (by omega), fun h => Or.inl h⟩) (fun q hq => hOa q (by omega)) (fun q hq => hOc q (by omega))
          have e_rd : ad41 6000 = ad 6000 := e_rd
          have e_kc : ad41 6005 = ad41 6005 := rfl
          have hkc5 : ad27 6005 = ad41 6005 := (hOa 6005 (by omega)).symm
          have k_kc0 := k_kc
          have v_rd : V45 6000 := hRD.2.1.1
          have k_rd : C46 6000 = .inr (8, [.ref (ad41 6001), .ref (ad41 6002), .ref (ad41 1), .int (iI n), .ref (ad41 6003), .ref (ad41 6005), .int (iI (kC x n a.2.1)), .int (iI (tF x n a.2.1)), .int (iI (tT x n a.2.1)), .int (iI vl31), .int (iI (-1))]) := hRD.2.1.2
          have v_li : V45 6003 := hRD.2.2.2.2.1.1
          have k_li : C46 6003 = .inr (10, [.int (iI mo32), .ref (ad41 6004), .int (iI (((all ++ a.2.2).length : Int) - (all.length : Int)))]) := hRD.2.2.2.2.1.2
          have v_ar : V45 6004 := hRD.2.2.2.2.2.1.1
          have k_ar : C46 6004 = .inl (E 5, (cpN a.2.2.length cap 0), ar (fun j => if all.length + j < (all ++ a.2.2).length then some (ad41 (7000 + (all.length + j))) else none)) := hRD.2.2.2.2.2.1.2
          have e_li : ad41 6003 = (ad41 6003) := rfl
          have e_ar : ad41 6004 = (ad41 6004) := rfl
          refine r_iconst hx hb dX9_clause_83 ?_
          refine lv_istore_n (lv' := [(2, .int (iI 0)), (1, .int (iI z1)), (0, .ref (ad 6000))]) hx hb dX9_clause_84 rfl hl (by decide) rfl (fun ls hl => ?_)
          have loop85_50 : ∀ (nd : Nat) (i : Int) (Vg : Nat → Prop) (adg : Nat → Nat) (Cg : Nat → va_E), ((a.2.2.length : Nat) : Int) - i < (nd : Int) → (Vg 6000) → (adg 6000 = (ad 6000)) → (Cg 6000 = .inr (8, [.ref (ad41 6001), .ref (ad41 6002), .ref (ad41 1), .int (iI n), .ref (ad41 6003), .ref (ad41 6005), .int (iI (kC x n a.2.1)), .int (iI (tF x n a.2.1)), .int (iI (tT x n a.2.1)), .int (iI vl31), .int (iI (-1))])) → (Vg 6005) → (adg 6005 = (ad41 6005)) → (Cg 6005 = .inl (E 7, 2, ar (va_up (clF ad27 bg) z1.toNat (some x40)))) → (Vg (6006 + z1.toNat)) → (adg (6006 + z1.toNat) = x40) → (Cg (6006 + z1.toNat) = .inl (E 6, a.2.2.length, ar (clR ad41 (all.length : Int) i.toNat))) → (Vg 6003) → (adg 6003 = (ad41 6003)) → (Cg 6003 = .inr (10, [.int (iI mo32), .ref (ad41 6004), .int (iI (((all ++ a.2.2).length : Int) - (all.length : Int)))])) → (Vg 6004) → (adg 6004 = (ad41 6004)) → (Cg 6004 = .inl (E 5, (cpN a.2.2.length cap 0), ar (fun j => if all.length + j < (all ++ a.2.2).length then some (ad41 (7000 + (all.length + j))) else none))) → (0 ≤ i ∧ i ≤ ((a.2.2.length : Nat) : Int)) → (V45 = Vg) → (ad41 = adg) → (∀ q, (q ≠ 6006 + z1.toNat) → Cg q = C46 q) → ∀ (H : Heap) (locs : List Loc) (ls : Array Slot), GW D A Vg adg Cg H → va_S A s.heap H locs → lv_has ls 3 [(2, .int (iI i)), (1, .int (iI z1)), (0, .ref (ad 6000))] → W pp l e R s m args below meth c H locs (600 + 1) (3100 + a.2.2.length) Q (F0 m 85 ls []) := by
            intro nd
            induction nd with
            | zero => intro i Vg adg Cg hn52 v_rd e_rd k_rd v_kc e_kc k_kc v_nw e_nw k_nw v_li e_li k_li v_ar e_ar k_ar hi eV ea hoth; exfalso; omega
            | succ nd ih51 =>
              intro i Vg adg Cg hn52 v_rd e_rd k_rd v_kc e_kc k_kc v_nw e_nw k_nw v_li e_li k_li v_ar e_ar k_ar hi eV ea hoth H locs ls hG hS hl
              subst eV
              subst ea
              have hRD : RD E adK x n V45 ad41 Cg (kC x n a.2.1) (tF x n a.2.1) (tT x n a.2.1) vl31 (-1) mo32 (cpN a.2.2.length cap 0) all.length (all ++ a.2.2) := hRD.cg (fun q hq => Iff.rfl) (fun q hq => rfl) (fun q hq => hoth q (by omega))
              have hmks := hRD.2.2.2.2.2.2.1
              refine lv_iload_n hx hb dX9_clause_85 rfl (lv_at hl 0 rfl) ?_
              refine lv_aload_n hx hb dX9_clause_86 rfl (lv_at hl 2 rfl) ?_
              refine a_get hCK hG 6000 e_rd v_rd k_rd (ci := 8) rfl in_X9 4 (by decide) q328 rfl rfl dX9_clause_87 ?_
              refine W.eq (g2 := F0 m 90 ls [.ref (ad41 6003), .int (iI i)]) rfl ?_
              refine s_calli (j_runV (n := 0) (C := RJ2) (b := (ad41 6003)) (rest := [.int (iI i)]) (as := []) hx hb hml hown hts ((by have h := met_lsize l adK adV st D E A V45 ad41 Cg 6003 6004 mo32 (((all ++ a.2.2).length : Int) - (all.length : Int)) v_li (by rw [e_ar]; exact k_li); rw [e_li] at h; exact h)) GB.blind (GB.at hK hG hE hS) (by have h := g_rec (r := 6003) (ci := 10) hK hG v_li rfl k_li; rw [e_li] at h; exact h) q613 q614 q615 q71 q616 (by decide +kernel) ⟨rfl, rfl⟩ hR (amr_ok (by decide) (by decide)) ⟨(by rw [hR]; show _ ≤ (_ : Nat); (try unfold amr); (try simp only []); omega), (by rw [hR]; show _ ≤ (_ : Nat); (try unfold amr); (try simp only []); omega)⟩ rfl hl.1 rfl (Nat.le_of_ble_eq_true rfl) dX9_clause_90) ?_
              refine r_icmp_ge (tgt := 121) hx hb dX9_clause_93 (by decide) (by omega) (by omega) (fun c53 => ?_) (fun c53 => ?_)
              · have ei : i = ((a.2.2.length : Nat) : Int) := by omega
                subst ei
                have hl := hl
                rw [Int.toNat_natCast] at k_nw
                have v_tx : V45 1 := hRD.1.1
                have k_tx : Cg 1 = .inl (E 1, 300, ai x) := hRD.1.2
                refine lv_aload_n hx hb dX9_clause_121 rfl (lv_at hl 2 rfl) ?_
                refine r_iconst hx hb dX9_clause_122 ?_
                have hM := met_pass l adK adV st D E A V45 ad41 Cg 1 (by decide) x n (kC x n a.2.1) (tF x n a.2.1) (tT x n a.2.1) vl31 (-1) hn hbx v_rd k_rd v_tx k_tx (tBT hp) (by decide)
                rw [e_rd] at hM
                refine a_calli (a_runV (n := 1) (C0 := RX9) (b := (ad 6000)) (rest := []) (as := [.int (iI 1)]) hCK hE hA hml (hM) (by have h := g_rec (r := 6000) (ci := 8) hK hG v_rd rfl k_rd; rw [e_rd] at h; exact h) q494 q496 qs6 q86 q497 (by decide +kernel) ⟨rfl, rfl⟩ hR (amr_ok (by decide) (by decide)) ⟨(by rw [hR]; show _ ≤ (_ : Nat); (try unfold amr); (try simp only []); omega), (by rw [hR]; show _ ≤ (_ : Nat); (try unfold amr); (try simp only []); omega)⟩ hG hS rfl hl.1 rfl (Nat.le_of_ble_eq_true rfl) dX9_clause_123) hS (fun z54 ad55 V56 C57 H locs hp58 hG hS => ?_)
                obtain ⟨rfl, rfl, rfl, hcs, o9⟩ := hp58
                obtain ⟨vl9, k9, hN9⟩ := (hcs.resolve_left (fun h => absurd h.1 (by decide))).2
                have hRD := hRD.tok k9 o9
                refine W.eq (g2 := F0 m 126 ls [.int (iI 1)]) rfl ?_
                have hCL9 : CL E V45 ad41 C57 (updZ bg (tV x n p) all.length) (updZ cs (tV x n p) (all ++ a.2.2).length) (all ++ a.2.2).length := by
                  rw [hz2.2.2]
                  refine ⟨⟨by rw [hV45]; exact Or.inl hCL.1.1, ?_⟩, fun j hj => ?_⟩
                  · rw [o9 6005 (by decide), k_kc, ← clF_up (ad := ad27) hz2.1 (by omega) (fun j hj hne => hOa _ (by omega)), e_nw]
                  · by_cases cj : (j : Int) = z1
                    · have ej : j = z1.toNat := by omega
                      subst ej
                      rw [cj, updZ_s, updZ_s]
                      have el : ((((all ++ a.2.2).length : Nat) : Int) - (all.length : Int)).toNat = a.2.2.length := by rw [List.length_append]; omega
                      refine Or.inr ⟨by rw [List.length_append]; omega, v_nw, ?_⟩
                      rw [el, o9 _ (by omega)]
                      exact k_nw
                    · rw [updZ_n cj, updZ_n cj]
                      rcases hCL.2 j hj with ⟨q1, q2⟩ | ⟨q1, q2, q3⟩
                      · refine Or.inl ⟨q1, ?_⟩
                        rw [hV45]
                        rintro (h | h)
                        · exact q2 h
                        · omega
                      · refine Or.inr ⟨by rw [List.length_append]; omega, by rw [hV45]; exact Or.inl q2, ?_⟩
                        rw [o9 _ (by omega), hoth _ (by omega), hOc _ (by omega), q3]
                        congr 4
                        funext i
                        unfold clR
                        by_cases ci : i < (cs j - bg j).toNat
                        · rw [if_pos ci, if_pos ci, hOa _ (by omega)]
                        · rw [if_neg ci, if_neg ci]
                have hOC9 : OC V ad C V45 ad41 C57 := ⟨fun q hq => ⟨(hOa q (by omega)).trans (hOC0.1 q hq).1, by rw [hV45]; exact ⟨fun h => (hOC0.1 q hq).2.mp (h.resolve_right (by omega)), fun h => Or.inl ((hOC0.1 q hq).2.mpr h)⟩⟩, fun q hq => (o9 q (by omega)).trans ((hoth q (by omega)).trans ((hOc q (by omega)).trans (hOC0.2 q hq)))⟩
                exact a_zret hCK hQ hr hlk hG hS (by omega) (by omega) (by decide) dX9_clause_126 (⟨hOC9, Or.inl ⟨hcond, hend, rfl, by rw [← ea]; exact ⟨vl9, _, _, hRD, hN9⟩, by rw [← ea]; exact hCL9⟩⟩)
              · refine lv_aload_n hx hb dX9_clause_96 rfl (lv_at hl 2 rfl) ?_
                refine a_get hCK hG 6000 e_rd v_rd k_rd (ci := 8) rfl in_X9 5 (by decide) q329 rfl rfl dX9_clause_97 ?_
                refine W.eq (g2 := F0 m 100 ls [.ref (ad41 6005)]) rfl ?_
                refine lv_iload_n hx hb dX9_clause_100 rfl (lv_at hl 1 rfl) ?_
                refine a_aldA (v := .ref x40) hCK hG 6005 e_kc v_kc k_kc (t := 7) rfl (by decide) (by omega) (by rw [va_up_s]; rfl) dX9_clause_101 ?_
                refine lv_iload_n hx hb dX9_clause_102 rfl (lv_at hl 0 rfl) ?_
                refine lv_aload_n hx hb dX9_clause_103 rfl (lv_at hl 2 rfl) ?_
                refine a_get hCK hG 6000 e_rd v_rd k_rd (ci := 8) rfl in_X9 4 (by decide) q328 rfl rfl dX9_clause_104 ?_
                refine W.eq (g2 := F0 m 107 ls [.ref (ad41 6003), .int (iI i), .ref x40]) rfl ?_
                refine lv_iload_n hx hb dX9_clause_107 rfl (lv_at hl 0 rfl) ?_
                have hM := met_lget l adK adV st D E A V45 ad41 Cg 6003 6004 mo32 (((all ++ a.2.2).length : Int) - (all.length : Int)) v_li k_li i (cpN a.2.2.length cap 0) (fun j => if all.length + j < (all ++ a.2.2).length then some (ad41 (7000 + (all.length + j))) else none) v_ar k_ar (by have := hRD.2.2.2.2.2.2.2.2.2.2.2; omega) (by omega) (by have := hRD.2.2.2.2.2.2.2.2.2.1; rw [List.length_append] at this; omega)
                refine j_callr (j_runV (n := 1) (C := RJ2) (b := (ad41 6003)) (rest := [.int (iI i), .ref x40]) (as := [.int (iI i)]) hx hb hml hown hts (hM) GB.blind (GB.at hK hG hE hS) (by have h := g_rec (r := 6003) (ci := 10) hK hG v_li rfl k_li; rw [e_li] at h; exact h) q619 q620 q621 q71 q622 (by decide +kernel) ⟨rfl, rfl⟩ hR (amr_ok (by decide) (by decide)) ⟨(by rw [hR]; show _ ≤ (_ : Nat); (try unfold amr); (try simp only []); omega), (by rw [hR]; show _ ≤ (_ : Nat); (try unfold amr); (try simp only []); omega)⟩ rfl hl.1 rfl (Nat.le_of_ble_eq_true rfl) dX9_clause_108) ?_
                refine W.eq (g2 := F0 m 111 ls [.ref (ad41 (7000 + (all.length + i.toNat))), .int (iI i), .ref x40]) (by show F0 m _ ls (va_rf (if all.length + i.toNat < (all ++ a.2.2).length then _ else _) :: _) = _; rw [if_pos (by rw [List.length_append]; omega)]; rfl) ?_
                obtain ⟨ci, fs, r9, k9, c9, l9⟩ := mkE_c2 _ _ (hmks (all.length + i.toNat) (by rw [List.length_append]; omega)).2
                refine va_castY (C := r9.1) hx hb hown (hts _ q617) (hE.2.2.2.2.1 _ (nw_w l9 rfl)) (g_rec hK hG (hmks (all.length + i.toNat) (by rw [List.length_append]; omega)).1 c9 k9) dX9_clause_111 ?_
                refine a_ast hCK hG hS (6006 + z1.toNat) e_nw v_nw k_nw (t := 6) rfl (by omega) (by omega) (a_any hCK hE hG (hmks (all.length + i.toNat) (by rw [List.length_append]; omega)).1 k9 c9 l9) dX9_clause_114 (fun C59 H locs kk60 oo61 hG hS oq62 => ?_)
                have k_nw : C59 (6006 + z1.toNat) = .inl (E 6, a.2.2.length, ar (va_up (clR ad41 (all.length : Int) i.toNat) i.toNat (some (ad41 (7000 + (all.length + i.toNat)))))) := kk60
                have k_rd : C59 6000 = .inr (8, [.ref (ad41 6001), .ref (ad41 6002), .ref (ad41 1), .int (iI n), .ref (ad41 6003), .ref (ad41 6005), .int (iI (kC x n a.2.1)), .int (iI (tF x n a.2.1)), .int (iI (tT x n a.2.1)), .int (iI vl31), .int (iI (-1))]) := (oo61 6000 (by omega)).trans k_rd
                have k_kc : C59 6005 = .inl (E 7, 2, ar (va_up (clF ad27 bg) z1.toNat (some x40))) := (oo61 6005 (by omega)).trans k_kc
                have k_li : C59 6003 = .inr (10, [.int (iI mo32), .ref (ad41 6004), .int (iI (((all ++ a.2.2).length : Int) - (all.length : Int)))]) := (oo61 6003 (by omega)).trans k_li
                have k_ar : C59 6004 = .inl (E 5, (cpN a.2.2.length cap 0), ar (fun j => if all.length + j < (all ++ a.2.2).length then some (ad41 (7000 + (all.length + j))) else none)) := (oo61 6004 (by omega)).trans k_ar
                have hoth : ∀ q, (q ≠ 6006 + z1.toNat) → C59 q = C46 q := fun q hq => (oo61 q (by omega)).trans (hoth q hq)
                refine lv_iinc (v := iI (i + 1)) (lv' := [(2, .int (iI (i + 1))), (1, .int (iI z1)), (0, .ref (ad 6000))]) hx hb dX9_clause_115 hl (k := 0) rfl (iI_add _ _) (by decide) rfl (fun ls hl => ?_)
                refine lv_goto (tgt := 85) hx hb dX9_clause_118 (by decide) ?_
                exact ih51 (i + 1) V45 ad41 C59 (by omega) v_rd e_rd k_rd v_kc e_kc k_kc v_nw e_nw (by rw [k_nw]; show _ = Sum.inl (E 6, a.2.2.length, ar (clR _ _ _)); rw [← clR_s (show 0 ≤ i by omega), Int.toNat_natCast]) v_li e_li k_li v_ar e_ar k_ar (by omega) rfl rfl hoth _ _ _ hG hS (lv_sub hl [0, 1, 2] rfl)
          exact loop85_50 ((((a.2.2.length : Nat) : Int) - 0 : Int).toNat + 1) 0 V45 ad41 C46 (by omega) v_rd e_rd k_rd v_kc e_kc k_kc v_nw e_nw (by rw [k_nw]; congr 4) v_li e_li k_li v_ar e_ar k_ar (by omega) rfl rfl (fun _ _ => rfl) _ _ _ hG hS (lv_sub hl [0, 1, 2] rfl)
        · have hk59 : ¬ (tK x n a.2.1 = 3 ∧ tV x n a.2.1 = 59) := by omega
          clear hkc
          have hne : ¬ ((ps x n 3000 6 (0 : Int) (tT x n p)).1 = true ∧ tK x n (ps x n 3000 6 (0 : Int) (tT x n p)).2.1 = 3 ∧ tV x n (ps x n 3000 6 (0 : Int) (tT x n p)).2.1 = 59) := by rw [← ea]; exact fun q => hk59 q.2
          refine lv_aload_n hx hb dX9_clause_61 rfl (lv_at hl 1 rfl) ?_
          refine r_iconst hx hb dX9_clause_62 ?_
          have hM := met_pass l adK adV st D E A V28 ad27 C29 0 (by decide) x n (kC x n a.2.1) (tF x n a.2.1) (tT x n a.2.1) vl31 (-1) hn hbx v_rd k_rd v_tx k_tx (tBT hp) (by decide)
          rw [e_rd] at hM
          refine a_calli (a_runV (n := 1) (C0 := RX9) (b := (ad 6000)) (rest := []) (as := [.int (iI 0)]) hCK hE hA hml (hM) (by have h := g_rec (r := 6000) (ci := 8) hK hG v_rd rfl k_rd; rw [e_rd] at h; exact h) q494 q496 qs6 q86 q497 (by decide +kernel) ⟨rfl, rfl⟩ hR (amr_ok (by decide) (by decide)) ⟨(by rw [hR]; show _ ≤ (_ : Nat); (try unfold amr); (try simp only []); omega), (by rw [hR]; show _ ≤ (_ : Nat); (try unfold amr); (try simp only []); omega)⟩ hG hS rfl hl.1 rfl (Nat.le_of_ble_eq_true rfl) dX9_clause_63) hS (fun z63 ad64 V65 C66 H locs hp67 hG hS => ?_)
          obtain ⟨rfl, rfl, rfl, hcs, o9⟩ := hp67
          have k9 := (hcs.resolve_right (fun h => absurd h.1 (by decide))).2
          rw [if_pos rfl] at k9
          have hRD := hRD.tok k9 o9
          have hOT := hOT.set o9
          have v_rd : V28 6000 := hRD.2.1.1
          have k_rd : C66 6000 = .inr (8, [.ref (ad27 6001), .ref (ad27 6002), .ref (ad27 1), .int (iI n), .ref (ad27 6003), .ref (ad27 6005), .int (iI (kC x n a.2.1)), .int (iI (tF x n a.2.1)), .int (iI (tT x n a.2.1)), .int (iI vl31), .int (iI (tF x n a.2.1))]) := hRD.2.1.2
          have e_rd : ad27 6000 = ad 6000 := (hOT 6000 (Or.inl (by decide))).1
          have v_tx : V28 1 := hRD.1.1
          have k_tx : C66 1 = .inl (E 1, 300, ai x) := hRD.1.2
          refine W.eq (g2 := F0 m 66 ls [.int (iI 0)]) rfl ?_
          exact a_zret hCK hQ hr hlk hG hS (by omega) (by omega) (by decide) dX9_clause_66 (⟨hOT.oc, Or.inr (Or.inl ⟨hcond, hne, rfl, by rw [← ea]; exact ⟨v_rd, _, _, _, _, kC_R _ _ _, k_rd⟩⟩)⟩)
    · rw [if_neg cq]
      refine lv_ifnonnull (tgt := 28) hx hb dX9_clause_21 (by decide) ?_
      have hnc : ¬ (tK x n p = 2 ∧ (0 ≤ tV x n p ∧ tV x n p ≤ 1) ∧ bg (tV x n p) = -1) := fun q => cq (by have := q.2.2; rw [hz2.2.2] at this; exact this)
      clear hwz
      refine r_iconst hx hb dX9_clause_28 ?_
      have hM := met_pass l adK adV st D E A V ad C 0 (by decide) x n (kC x n p) (tF x n p) (tT x n p) vl (-1) hn hbx v_rd k_rd v_tx k_tx (tBT hp) (by decide)
      rw [e_rd] at hM
      refine a_calli (a_runV (n := 1) (C0 := RX9) (b := (ad 6000)) (rest := []) (as := [.int (iI 0)]) hCK hE hA hml (hM) (by have h := g_rec (r := 6000) (ci := 8) hK hG v_rd rfl k_rd; rw [e_rd] at h; exact h) q494 q496 qs6 q86 q497 (by decide +kernel) ⟨rfl, rfl⟩ hR (amr_ok (by decide) (by decide)) ⟨(by rw [hR]; show _ ≤ (_ : Nat); (try unfold amr); (try simp only []); omega), (by rw [hR]; show _ ≤ (_ : Nat); (try unfold amr); (try simp only []); omega)⟩ hG hS rfl hl.1 rfl (Nat.le_of_ble_eq_true rfl) dX9_clause_29) hS (fun z69 ad70 V71 C72 H locs hp73 hG hS => ?_)
      obtain ⟨rfl, rfl, rfl, hcs, o9⟩ := hp73
      have k9 := (hcs.resolve_right (fun h => absurd h.1 (by decide))).2
      rw [if_pos rfl] at k9
      have hRD := hRD.tok k9 o9
      have hOT := hOT.set o9
      have v_rd : V 6000 := hRD.2.1.1
      have k_rd : C72 6000 = .inr (8, [.ref (ad 6001), .ref (ad 6002), .ref (ad 1), .int (iI n), .ref (ad 6003), .ref (ad 6005), .int (iI (kC x n p)), .int (iI (tF x n p)), .int (iI (tT x n p)), .int (iI vl), .int (iI (tF x n p))]) := hRD.2.1.2
      have e_rd : ad 6000 = ad 6000 := (hOT 6000 (Or.inl (by decide))).1
      have v_tx : V 1 := hRD.1.1
      have k_tx : C72 1 = .inl (E 1, 300, ai x) := hRD.1.2
      refine W.eq (g2 := F0 m 32 ls [.int (iI 0)]) rfl ?_
      refine r_if_ne (tgt := 37) hx hb dX9_clause_32 (by decide) (by decide) (fun c75 => absurd c75 (fun h => h rfl)) (fun c75 => ?_)
      refine r_iconst hx hb dX9_clause_35 ?_
      exact a_zret hCK hQ hr hlk hG hS (by omega) (by omega) (by decide) dX9_clause_36 (⟨hOT.oc, Or.inr (Or.inr ⟨hnc, rfl, v_rd, _, _, _, _, kC_R _ _ _, k_rd⟩)⟩)
