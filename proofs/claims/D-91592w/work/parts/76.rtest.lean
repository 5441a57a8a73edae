/-! THE READER: tests -/
set_option maxRecDepth 100000
theorem dX9_test_0 : decode cX9_test 0 = .ok (.aload_n 0, 1) := by decide +kernel
theorem dX9_test_1 : decode cX9_test 1 = .ok (.ldc 152, 2) := by decide +kernel
theorem dX9_test_3 : decode cX9_test 3 = .ok (.invokevirtual 101, 3) := by decide +kernel
theorem dX9_test_6 : decode cX9_test 6 = .ok (.ifCond .eq 53, 3) := by decide +kernel
theorem dX9_test_9 : decode cX9_test 9 = .ok (.aload_n 0, 1) := by decide +kernel
theorem dX9_test_10 : decode cX9_test 10 = .ok (.iload_n 1, 1) := by decide +kernel
theorem dX9_test_11 : decode cX9_test 11 = .ok (.bipush 8, 2) := by decide +kernel
theorem dX9_test_13 : decode cX9_test 13 = .ok (.if_icmp .ge 7, 3) := by decide +kernel
theorem dX9_test_16 : decode cX9_test 16 = .ok (.iconst 1, 1) := by decide +kernel
theorem dX9_test_17 : decode cX9_test 17 = .ok (.goto 4, 3) := by decide +kernel
theorem dX9_test_20 : decode cX9_test 20 = .ok (.iconst 0, 1) := by decide +kernel
theorem dX9_test_21 : decode cX9_test 21 = .ok (.invokevirtual 126, 3) := by decide +kernel
theorem dX9_test_24 : decode cX9_test 24 = .ok (.ifCond .eq 33, 3) := by decide +kernel
theorem dX9_test_27 : decode cX9_test 27 = .ok (.aload_n 0, 1) := by decide +kernel
theorem dX9_test_28 : decode cX9_test 28 = .ok (.iload_n 1, 1) := by decide +kernel
theorem dX9_test_29 : decode cX9_test 29 = .ok (.iconst 1, 1) := by decide +kernel
theorem dX9_test_30 : decode cX9_test 30 = .ok (.iadd, 1) := by decide +kernel
theorem dX9_test_31 : decode cX9_test 31 = .ok (.invokevirtual 147, 3) := by decide +kernel
theorem dX9_test_34 : decode cX9_test 34 = .ok (.ifCond .eq 23, 3) := by decide +kernel
theorem dX9_test_37 : decode cX9_test 37 = .ok (.aload_n 0, 1) := by decide +kernel
theorem dX9_test_38 : decode cX9_test 38 = .ok (.new 116, 3) := by decide +kernel
theorem dX9_test_41 : decode cX9_test 41 = .ok (.dup, 1) := by decide +kernel
theorem dX9_test_42 : decode cX9_test 42 = .ok (.bipush 33, 2) := by decide +kernel
theorem dX9_test_44 : decode cX9_test 44 = .ok (.invokespecial 118, 3) := by decide +kernel
theorem dX9_test_47 : decode cX9_test 47 = .ok (.invokevirtual 119, 3) := by decide +kernel
theorem dX9_test_50 : decode cX9_test 50 = .ok (.ifCond .eq 7, 3) := by decide +kernel
theorem dX9_test_53 : decode cX9_test 53 = .ok (.iconst 1, 1) := by decide +kernel
theorem dX9_test_54 : decode cX9_test 54 = .ok (.goto 4, 3) := by decide +kernel
theorem dX9_test_57 : decode cX9_test 57 = .ok (.iconst 0, 1) := by decide +kernel
theorem dX9_test_58 : decode cX9_test 58 = .ok (.ireturn, 1) := by decide +kernel
theorem dX9_test_59 : decode cX9_test 59 = .ok (.aload_n 0, 1) := by decide +kernel
theorem dX9_test_60 : decode cX9_test 60 = .ok (.getfield 70, 3) := by decide +kernel
theorem dX9_test_63 : decode cX9_test 63 = .ok (.bipush 91, 2) := by decide +kernel
theorem dX9_test_65 : decode cX9_test 65 = .ok (.if_icmp .ne 58, 3) := by decide +kernel
theorem dX9_test_68 : decode cX9_test 68 = .ok (.aload_n 0, 1) := by decide +kernel
theorem dX9_test_69 : decode cX9_test 69 = .ok (.iload_n 1, 1) := by decide +kernel
theorem dX9_test_70 : decode cX9_test 70 = .ok (.bipush 8, 2) := by decide +kernel
theorem dX9_test_72 : decode cX9_test 72 = .ok (.if_icmp .ge 7, 3) := by decide +kernel
theorem dX9_test_75 : decode cX9_test 75 = .ok (.iconst 1, 1) := by decide +kernel
theorem dX9_test_76 : decode cX9_test 76 = .ok (.goto 4, 3) := by decide +kernel
theorem dX9_test_79 : decode cX9_test 79 = .ok (.iconst 0, 1) := by decide +kernel
theorem dX9_test_80 : decode cX9_test 80 = .ok (.invokevirtual 126, 3) := by decide +kernel
theorem dX9_test_83 : decode cX9_test 83 = .ok (.ifCond .eq 38, 3) := by decide +kernel
theorem dX9_test_86 : decode cX9_test 86 = .ok (.aload_n 0, 1) := by decide +kernel
theorem dX9_test_87 : decode cX9_test 87 = .ok (.iload_n 1, 1) := by decide +kernel
theorem dX9_test_88 : decode cX9_test 88 = .ok (.iconst 1, 1) := by decide +kernel
theorem dX9_test_89 : decode cX9_test 89 = .ok (.iadd, 1) := by decide +kernel
theorem dX9_test_90 : decode cX9_test 90 = .ok (.invokevirtual 154, 3) := by decide +kernel
theorem dX9_test_93 : decode cX9_test 93 = .ok (.ifCond .eq 28, 3) := by decide +kernel
theorem dX9_test_96 : decode cX9_test 96 = .ok (.aload_n 0, 1) := by decide +kernel
theorem dX9_test_97 : decode cX9_test 97 = .ok (.aload_n 0, 1) := by decide +kernel
theorem dX9_test_98 : decode cX9_test 98 = .ok (.getfield 70, 3) := by decide +kernel
theorem dX9_test_101 : decode cX9_test 101 = .ok (.bipush 93, 2) := by decide +kernel
theorem dX9_test_103 : decode cX9_test 103 = .ok (.if_icmp .ne 7, 3) := by decide +kernel
theorem dX9_test_106 : decode cX9_test 106 = .ok (.iconst 1, 1) := by decide +kernel
theorem dX9_test_107 : decode cX9_test 107 = .ok (.goto 4, 3) := by decide +kernel
theorem dX9_test_110 : decode cX9_test 110 = .ok (.iconst 0, 1) := by decide +kernel
theorem dX9_test_111 : decode cX9_test 111 = .ok (.invokevirtual 126, 3) := by decide +kernel
theorem dX9_test_114 : decode cX9_test 114 = .ok (.ifCond .eq 7, 3) := by decide +kernel
theorem dX9_test_117 : decode cX9_test 117 = .ok (.iconst 1, 1) := by decide +kernel
theorem dX9_test_118 : decode cX9_test 118 = .ok (.goto 4, 3) := by decide +kernel
theorem dX9_test_121 : decode cX9_test 121 = .ok (.iconst 0, 1) := by decide +kernel
theorem dX9_test_122 : decode cX9_test 122 = .ok (.ireturn, 1) := by decide +kernel
theorem dX9_test_123 : decode cX9_test 123 = .ok (.aload_n 0, 1) := by decide +kernel
theorem dX9_test_124 : decode cX9_test 124 = .ok (.iload_n 1, 1) := by decide +kernel
theorem dX9_test_125 : decode cX9_test 125 = .ok (.invokevirtual 130, 3) := by decide +kernel
theorem dX9_test_128 : decode cX9_test 128 = .ok (.ifCond .ne 5, 3) := by decide +kernel
theorem dX9_test_131 : decode cX9_test 131 = .ok (.iconst 0, 1) := by decide +kernel
theorem dX9_test_132 : decode cX9_test 132 = .ok (.ireturn, 1) := by decide +kernel
theorem dX9_test_133 : decode cX9_test 133 = .ok (.aload_n 0, 1) := by decide +kernel
theorem dX9_test_134 : decode cX9_test 134 = .ok (.getfield 70, 3) := by decide +kernel
theorem dX9_test_137 : decode cX9_test 137 = .ok (.istore_n 2, 1) := by decide +kernel
theorem dX9_test_138 : decode cX9_test 138 = .ok (.aload_n 0, 1) := by decide +kernel
theorem dX9_test_139 : decode cX9_test 139 = .ok (.iload_n 2, 1) := by decide +kernel
theorem dX9_test_140 : decode cX9_test 140 = .ok (.bipush 60, 2) := by decide +kernel
theorem dX9_test_142 : decode cX9_test 142 = .ok (.if_icmp .eq 15, 3) := by decide +kernel
theorem dX9_test_145 : decode cX9_test 145 = .ok (.iload_n 2, 1) := by decide +kernel
theorem dX9_test_146 : decode cX9_test 146 = .ok (.bipush 62, 2) := by decide +kernel
theorem dX9_test_148 : decode cX9_test 148 = .ok (.if_icmp .eq 9, 3) := by decide +kernel
theorem dX9_test_151 : decode cX9_test 151 = .ok (.iload_n 2, 1) := by decide +kernel
theorem dX9_test_152 : decode cX9_test 152 = .ok (.bipush 61, 2) := by decide +kernel
theorem dX9_test_154 : decode cX9_test 154 = .ok (.if_icmp .ne 7, 3) := by decide +kernel
theorem dX9_test_157 : decode cX9_test 157 = .ok (.iconst 1, 1) := by decide +kernel
theorem dX9_test_158 : decode cX9_test 158 = .ok (.goto 4, 3) := by decide +kernel
theorem dX9_test_161 : decode cX9_test 161 = .ok (.iconst 0, 1) := by decide +kernel
theorem dX9_test_162 : decode cX9_test 162 = .ok (.invokevirtual 126, 3) := by decide +kernel
theorem dX9_test_165 : decode cX9_test 165 = .ok (.ifCond .eq 30, 3) := by decide +kernel
theorem dX9_test_168 : decode cX9_test 168 = .ok (.aload_n 0, 1) := by decide +kernel
theorem dX9_test_169 : decode cX9_test 169 = .ok (.iload_n 1, 1) := by decide +kernel
theorem dX9_test_170 : decode cX9_test 170 = .ok (.invokevirtual 130, 3) := by decide +kernel
theorem dX9_test_173 : decode cX9_test 173 = .ok (.ifCond .eq 22, 3) := by decide +kernel
theorem dX9_test_176 : decode cX9_test 176 = .ok (.aload_n 0, 1) := by decide +kernel
theorem dX9_test_177 : decode cX9_test 177 = .ok (.new 116, 3) := by decide +kernel
theorem dX9_test_180 : decode cX9_test 180 = .ok (.dup, 1) := by decide +kernel
theorem dX9_test_181 : decode cX9_test 181 = .ok (.iload_n 2, 1) := by decide +kernel
theorem dX9_test_182 : decode cX9_test 182 = .ok (.invokespecial 118, 3) := by decide +kernel
theorem dX9_test_185 : decode cX9_test 185 = .ok (.invokevirtual 119, 3) := by decide +kernel
theorem dX9_test_188 : decode cX9_test 188 = .ok (.ifCond .eq 7, 3) := by decide +kernel
theorem dX9_test_191 : decode cX9_test 191 = .ok (.iconst 1, 1) := by decide +kernel
theorem dX9_test_192 : decode cX9_test 192 = .ok (.goto 4, 3) := by decide +kernel
theorem dX9_test_195 : decode cX9_test 195 = .ok (.iconst 0, 1) := by decide +kernel
theorem dX9_test_196 : decode cX9_test 196 = .ok (.ireturn, 1) := by decide +kernel
set_option maxHeartbeats 4000000 in
theorem grm_test (l : Launch) (adK adV st : Nat → Nat) (D : va_G) (E : Nat → ClassId) (A : Nat → Prop) (x : Int → Int) (n : Int) (hn : 0 ≤ n ∧ n ≤ 300) (hbx : Bd x 300 (-128) 127) (f : Nat) (ih_test : ∀ f1, f1 < f → GM l adK adV st D E A x n yX9_test cX9_test 3 3 10 4 f1) (ih_either : ∀ f1, f1 < f → GM l adK adV st D E A x n yX9_either cX9_either 3 5 6 6 f1) (ih_sum : ∀ f1, f1 < f → GM l adK adV st D E A x n yX9_sum cX9_sum 4 2 1 3 f1) : GM l adK adV st D E A x n yX9_test cX9_test 3 3 10 4 f := by
  intro V ad C p vl mo cap b0 all dn hd hRD hNA hp hf hal
  obtain ⟨g, rfl⟩ : ∃ g, f = g + 1 := ⟨f - 1, by omega⟩
  obtain ⟨Rz, eR⟩ : ∃ R, R = ps x n (g + 1) 10 (dn : Int) p := ⟨_, rfl⟩
  rw [← eR]
  rw [ps_10] at eR
  have hb0 := hRD.2.2.2.2.2.2.2.2.1
  obtain ⟨m0, hm0⟩ : ∃ m, m = all.length - b0 := ⟨_, rfl⟩
  rw [← hm0]
  refine a_start (by decide) rfl (Nat.le_of_ble_eq_true rfl) ?_
  intro pp e R s m args below meth c ls Q hR hQ hCK hml hr hlk hnme hG hS hE hA hl
  have hx := hCK.1
  have hb := hCK.2.1
  have hown := hCK.2.2.1
  have hts := hCK.2.2.2.1
  have hK := hCK.2.2.2.2
  have hl : lv_has ls 3 [(0, .ref (ad 6000)), (1, .int (iI (dn : Int)))] := hl
  have hOT : OT all.length V ad C V ad C := OT.rf
  have htb := tB (x := x) hp
  have v_rd : V 6000 := hRD.2.1.1
  have k_rd : C 6000 = .inr (8, [.ref (ad 6001), .ref (ad 6002), .ref (ad 1), .int (iI n), .ref (ad 6003), .ref (ad 6005), .int (iI (kC x n p)), .int (iI (tF x n p)), .int (iI (tT x n p)), .int (iI vl), .int (iI (-1))]) := hRD.2.1.2
  have e_rd : ad 6000 = ad 6000 := (hOT 6000 (Or.inl (by decide))).1
  have v_tx : V 1 := hRD.1.1
  have k_tx : C 1 = .inl (E 1, 300, ai x) := hRD.1.2
  refine lv_aload_n hx hb dX9_test_0 rfl (lv_at hl 0 rfl) ?_
  refine e_str hx hb hE (i := 11) rfl hown dX9_test_1 ?_
  have hM := met_isw l adK adV st D E A V ad C 11 (by decide) x n (kC x n p) (tF x n p) (tT x n p) vl (-1) hn hbx v_rd k_rd v_tx k_tx (tBF hp) (kC_R _ _ _)
  rw [e_rd] at hM
  refine a_calli (a_runV (n := 1) (C0 := RX9) (b := (ad 6000)) (rest := []) (as := [.ref (adK 11)]) hCK hE hA hml (hM) (by have h := g_rec (r := 6000) (ci := 8) hK hG v_rd rfl k_rd; rw [e_rd] at h; exact h) q469 q471 qs5 q86 q472 (by decide +kernel) ⟨rfl, rfl⟩ hR (amr_ok (lv1 (by decide)) (by decide)) ⟨(by rw [hR]; exact (Nat.zero_le _)), (by rw [hR]; exact (Nat.zero_le _))⟩ hG hS rfl hl.1 rfl (Nat.le_of_ble_eq_true rfl) dX9_test_3) hS (fun z1 ad2 V3 C4 H locs hp5 hG hS => ?_)
  obtain ⟨rfl, rfl, rfl, rfl⟩ := hp5
  have hwk := tok_w (x := x) (n := n) (p := p) (k := 11) (by decide)
  refine W.eq (g2 := F0 m 6 ls [.int (iI (if kC x n p = 1 ∧ isW x (tF x n p) (tT x n p) 11 = true then 1 else 0))]) rfl ?_
  refine r_ifeqB (tgt := 59) hx hb dX9_test_6 (by decide) (fun cw => ?_) (fun cw => ?_)
  · have hno : ¬ (tK x n p = 2 ∧ tV x n p = 11) := fun q => cw (hwk.mpr q)
    rw [if_neg hno] at eR
    have hkc := kC_cases x n p
    refine lv_aload_n hx hb dX9_test_59 rfl (lv_at hl 0 rfl) ?_
    refine a_get hCK hG 6000 e_rd v_rd k_rd (ci := 8) rfl in_X9 6 (by decide) q330 rfl rfl dX9_test_60 ?_
    refine W.eq (g2 := F0 m 63 ls [.int (iI (kC x n p))]) rfl ?_
    refine r_bipush hx hb dX9_test_63 (by decide) ?_
    refine r_icmp_ne (tgt := 123) hx hb dX9_test_65 (by decide) (kC_R _ _ _) (by decide) (fun c6 => ?_) (fun c6 => ?_)
    · rw [if_neg (show ¬ (tK x n p = 3 ∧ tV x n p = 91) by omega)] at eR
      clear hkc
      refine lv_aload_n hx hb dX9_test_123 rfl (lv_at hl 0 rfl) ?_
      refine lv_iload_n hx hb dX9_test_124 rfl (lv_at hl 1 rfl) ?_
      obtain ⟨a1, e_a1⟩ : ∃ a, a = ps x n (g) 1 ((dn : Nat) : Int) (p) := ⟨_, rfl⟩
      have l_a1 := ps_len x n (g) 1 ((dn : Nat) : Int) (p) hp.2
      rw [← e_a1] at l_a1
      have hM := ih_sum (g) (by omega) V ad C (p) vl mo cap b0 (all) (dn) hd hRD hNA hp (by omega) hal
      rw [← e_a1, e_rd] at hM
      have h_mt : (all).length - b0 = m0 := by first | exact hm0.symm | (rw [List.length_append]; exact ll2s hb0 hm0)
      rw [h_mt] at hM
      rw [← e_a1] at eR
      have hRl1 : a1.2.2.length ≤ Rz.2.2.length := by rw [eR]; exact sq_len _ _
      have hq1 := csN_le cap m0 hRl1
      refine a_calli (a_runV (n := 1) (C0 := RX9) (b := (ad 6000)) (rest := []) (as := [.int (iI (dn : Int))]) hCK hE hA hml (hM) (by have h := g_rec (r := 6000) (ci := 8) hK hG v_rd rfl k_rd; rw [e_rd] at h; exact h) q586 q588 qs14 q86 q589 (by decide +kernel) ⟨rfl, rfl⟩ hR (amr_ok (lv2 (by decide)) (by decide)) ⟨(by rw [hR]; exact (show 0 + _ ≤ _ from by rw [Nat.zero_add]; exact hq1.1)), (by rw [hR]; exact (show 0 + _ ≤ _ from by rw [Nat.zero_add]; exact hq1.2))⟩ hG hS rfl hl.1 rfl (Nat.le_of_ble_eq_true rfl) dX9_test_125) hS (fun z7 ad8 V9 C10 H locs hp11 hG hS => ?_)
      obtain ⟨rfl, ⟨vl12, mo13, hRD, hNA⟩, hot9⟩ := hp11
      have hOT := hOT.tr hot9 (by first | exact Nat.le_refl _ | (rw [List.length_append]; exact Nat.le_add_right _ _) | (rw [List.length_append, List.length_append]; exact Nat.le_trans (Nat.le_add_right _ _) (Nat.le_add_right _ _)))
      rw [h_mt] at hRD
      have hp : 0 ≤ a1.2.1 ∧ a1.2.1 ≤ n := ⟨Int.le_trans hp.1 l_a1.1.1, l_a1.1.2⟩
      have htb := tB (x := x) hp
      have hal : (((all ++ a1.2.2).length : Nat) : Int) ≤ a1.2.1 := by rw [List.length_append]; exact hal_2 hal l_a1.2
      refine W.eq (g2 := F0 m 128 ls [.int (iI (if a1.1 = true then 1 else 0))]) rfl ?_
      refine W.widen (k := csN (a1.2.2.length) cap m0) (n := slN (a1.2.2.length) cap m0) (by rw [Nat.zero_add]; exact Nat.le_refl _) (by rw [Nat.zero_add]; exact Nat.le_refl _) ?_
      refine r_ifneB (tgt := 133) hx hb dX9_test_128 (by decide) (fun ca => ?_) (fun ca => ?_)
      · rw [sq_y ca] at eR
        rw [if_pos ca] at hRD
        obtain ⟨g2, rfl⟩ : ∃ g2, g = g2 + 1 := ⟨g - 1, by omega⟩
        rw [ps_11] at eR
        have hkc := kC_cases x n a1.2.1
        have hql : a1.2.2.length ≤ Rz.2.2.length := by rw [eR]; show _ ≤ (a1.2.2 ++ _).length; rw [List.length_append]; exact Nat.le_add_right _ _
        have hqo := csN_le cap m0 hql
        have v_rd : V9 6000 := hRD.2.1.1
        have k_rd : C10 6000 = .inr (8, [.ref (ad8 6001), .ref (ad8 6002), .ref (ad8 1), .int (iI n), .ref (ad8 6003), .ref (ad8 6005), .int (iI (kC x n a1.2.1)), .int (iI (tF x n a1.2.1)), .int (iI (tT x n a1.2.1)), .int (iI vl12), .int (iI (-1))]) := hRD.2.1.2
        have e_rd : ad8 6000 = ad 6000 := (hOT 6000 (Or.inl (by decide))).1
        have v_tx : V9 1 := hRD.1.1
        have k_tx : C10 1 = .inl (E 1, 300, ai x) := hRD.1.2
        refine lv_aload_n hx hb dX9_test_133 rfl (lv_at hl 0 rfl) ?_
        refine a_get hCK hG 6000 e_rd v_rd k_rd (ci := 8) rfl in_X9 6 (by decide) q330 rfl rfl dX9_test_134 ?_
        refine W.eq (g2 := F0 m 137 ls [.int (iI (kC x n a1.2.1))]) rfl ?_
        refine lv_istore_n (lv' := [(2, .int (iI (kC x n a1.2.1))), (0, .ref (ad 6000)), (1, .int (iI (dn : Int)))]) hx hb dX9_test_137 rfl hl (by decide) rfl (fun ls hl => ?_)
        refine lv_aload_n hx hb dX9_test_138 rfl (lv_at hl 1 rfl) ?_
        refine lv_iload_n hx hb dX9_test_139 rfl (lv_at hl 0 rfl) ?_
        refine r_bipush hx hb dX9_test_140 (by decide) ?_
        have hop : (tK x n a1.2.1 = 3 ∧ (tV x n a1.2.1 = 60 ∨ tV x n a1.2.1 = 62 ∨ tV x n a1.2.1 = 61)) → W pp l e R s m args below meth c H locs (csN (a1.2.2.length) cap m0) (slN (a1.2.2.length) cap m0) Q (F0 m 157 ls [.ref (ad 6000)]) := by
          intro hyes
          rw [if_pos hyes] at eR
          have htk : tK x n a1.2.1 ≠ 0 := by rw [hyes.1]; decide
          have hl7 := htb.2.2 htk
          have hk2 : (kC x n a1.2.1 = 60 ∧ tV x n a1.2.1 = 60) ∨ (kC x n a1.2.1 = 62 ∧ tV x n a1.2.1 = 62) ∨ (kC x n a1.2.1 = 61 ∧ tV x n a1.2.1 = 61) := by omega
          clear hkc hyes
          have hf2 : 8 * (n - tT x n a1.2.1) + 3 < (g2 : Int) := by have := l_a1.1.1; omega
          have hl8 := l_a1.2
          have hal1 := hal
          refine r_iconst hx hb dX9_test_157 ?_
          refine lv_goto (tgt := 162) hx hb dX9_test_158 (by decide) ?_
          have hM := met_pass l adK adV st D E A V9 ad8 C10 1 (by decide) x n (kC x n a1.2.1) (tF x n a1.2.1) (tT x n a1.2.1) vl12 (-1) hn hbx v_rd k_rd v_tx k_tx (tBT hp) (by decide)
          rw [e_rd] at hM
          refine a_calli (a_runV (n := 1) (C0 := RX9) (b := (ad 6000)) (rest := []) (as := [.int (iI 1)]) hCK hE hA hml (hM) (by have h := g_rec (r := 6000) (ci := 8) hK hG v_rd rfl k_rd; rw [e_rd] at h; exact h) q494 q496 qs6 q86 q497 (by decide +kernel) ⟨rfl, rfl⟩ hR (amr_ok (lv1 (by decide)) (by decide)) ⟨(by rw [hR]; exact hqo.1), (by rw [hR]; exact hqo.2)⟩ hG hS rfl hl.1 rfl (Nat.le_of_ble_eq_true rfl) dX9_test_162) hS (fun z14 ad15 V16 C17 H locs hp18 hG hS => ?_)
          obtain ⟨rfl, rfl, rfl, hcs, o9⟩ := hp18
          obtain ⟨vl19, k9, hNA⟩ := (hcs.resolve_left (fun h => absurd h.1 (by decide))).2
          have hRD := hRD.tok k9 o9
          have hOT := hOT.set o9
          have hal : (((all ++ a1.2.2).length : Nat) : Int) ≤ tT x n a1.2.1 := hal_t hp hal
          have hp : 0 ≤ tT x n a1.2.1 ∧ tT x n a1.2.1 ≤ n := tBT hp
          have htb := tB (x := x) hp
          have v_rd : V9 6000 := hRD.2.1.1
          have k_rd : C17 6000 = .inr (8, [.ref (ad8 6001), .ref (ad8 6002), .ref (ad8 1), .int (iI n), .ref (ad8 6003), .ref (ad8 6005), .int (iI (kC x n (tT x n a1.2.1))), .int (iI (tF x n (tT x n a1.2.1))), .int (iI (tT x n (tT x n a1.2.1))), .int (iI vl19), .int (iI (-1))]) := hRD.2.1.2
          have e_rd : ad8 6000 = ad 6000 := (hOT 6000 (Or.inl (by decide))).1
          have v_tx : V9 1 := hRD.1.1
          have k_tx : C17 1 = .inl (E 1, 300, ai x) := hRD.1.2
          refine W.eq (g2 := F0 m 165 ls [.int (iI 1)]) rfl ?_
          refine r_if_eq (tgt := 195) hx hb dX9_test_165 (by decide) (by decide) (fun c20 => absurd c20 (by decide)) (fun c20 => ?_)
          refine lv_aload_n hx hb dX9_test_168 rfl (lv_at hl 1 rfl) ?_
          refine lv_iload_n hx hb dX9_test_169 rfl (lv_at hl 2 rfl) ?_
          obtain ⟨a2, e_a2⟩ : ∃ a, a = ps x n (g2) 1 ((dn : Nat) : Int) (tT x n a1.2.1) := ⟨_, rfl⟩
          have l_a2 := ps_len x n (g2) 1 ((dn : Nat) : Int) (tT x n a1.2.1) hp.2
          rw [← e_a2] at l_a2
          have hM := ih_sum (g2) (by omega) V9 ad8 C17 (tT x n a1.2.1) vl19 mo13 (cpN a1.2.2.length cap m0) b0 (all ++ a1.2.2) (dn) hd hRD hNA hp hf2 hal
          rw [← e_a2, e_rd] at hM
          have h_mt : (all ++ a1.2.2).length - b0 = m0 + a1.2.2.length := by first | exact hm0.symm | (rw [List.length_append]; exact ll2s hb0 hm0)
          rw [h_mt] at hM
          rw [← e_a2] at eR
          have hRl3 : a1.2.2.length + a2.2.2.length ≤ Rz.2.2.length := by
            rw [eR]
            have h1 := sq_len a2 (fun p1_ => (true, p1_, [((if tV x n a1.2.1 = 60 then 6 else if tV x n a1.2.1 = 62 then 7 else 8), (0 : Int))]))
            show _ ≤ (a1.2.2 ++ _).length
            rw [List.length_append]
            exact Nat.add_le_add_left h1 _
          have hq3 := csN_le cap m0 hRl3
          rw [csN_add, slN_add] at hq3
          refine a_calli (a_runV (n := 1) (C0 := RX9) (b := (ad 6000)) (rest := []) (as := [.int (iI (dn : Int))]) hCK hE hA hml (hM) (by have h := g_rec (r := 6000) (ci := 8) hK hG v_rd rfl k_rd; rw [e_rd] at h; exact h) q586 q588 qs14 q86 q589 (by decide +kernel) ⟨rfl, rfl⟩ hR (amr_ok (lv2 (by decide)) (by decide)) ⟨(by rw [hR]; exact hq3.1), (by rw [hR]; exact hq3.2)⟩ hG hS rfl hl.1 rfl (Nat.le_of_ble_eq_true rfl) dX9_test_170) hS (fun z21 ad22 V23 C24 H locs hp25 hG hS => ?_)
          obtain ⟨rfl, ⟨vl26, mo27, hRD, hNA⟩, hot9⟩ := hp25
          have hOT := hOT.tr hot9 (by first | exact Nat.le_refl _ | (rw [List.length_append]; exact Nat.le_add_right _ _) | (rw [List.length_append, List.length_append]; exact Nat.le_trans (Nat.le_add_right _ _) (Nat.le_add_right _ _)))
          rw [h_mt] at hRD
          have hp : 0 ≤ a2.2.1 ∧ a2.2.1 ≤ n := ⟨Int.le_trans hp.1 l_a2.1.1, l_a2.1.2⟩
          have htb := tB (x := x) hp
          have hal : (((all ++ a1.2.2 ++ a2.2.2).length : Nat) : Int) ≤ a2.2.1 := by rw [List.length_append]; exact hal_2 hal l_a2.2
          refine W.eq (g2 := F0 m 173 ls [.int (iI (if a2.1 = true then 1 else 0))]) rfl ?_
          refine W.widen (k := csN (a1.2.2.length + a2.2.2.length) cap m0) (n := slN (a1.2.2.length + a2.2.2.length) cap m0) (by rw [csN_add]; exact Nat.le_refl _) (by rw [slN_add]; exact Nat.le_refl _) ?_
          rw [← cpN_add] at hRD
          refine r_ifeqB (tgt := 195) hx hb dX9_test_173 (by decide) (fun cb => ?_) (fun cb => ?_)
          · rw [sq_n cb] at eR
            rw [if_neg cb] at hRD
            have eR : Rz = (false, a2.2.1, a1.2.2 ++ a2.2.2) := by rw [eR, bf cb]
            clear hk2
            refine r_iconst hx hb dX9_test_195 ?_
            exact a_zret hCK hQ hr hlk hG hS (by rw [eR, List.length_append]; exact Nat.le_refl _) (by rw [eR, List.length_append]; exact Nat.le_refl _) (by decide) dX9_test_196 (⟨by rw [eR]; rfl, ⟨vl26, mo27, by rw [eR, ← hm0]; show RD _ _ _ _ _ _ _ _ _ _ _ _ _ (cpN (a1.2.2 ++ a2.2.2).length cap m0) _ (all ++ (a1.2.2 ++ a2.2.2)); rw [List.length_append, ← List.append_assoc]; exact hRD, by rw [eR]; exact hNA⟩, hOT⟩)
          · rw [sq_y cb] at eR
            have eR2 : Rz = (true, a2.2.1, a1.2.2 ++ (a2.2.2 ++ [(if tV x n a1.2.1 = 60 then 6 else if tV x n a1.2.1 = 62 then 7 else 8, 0)])) := eR
            rw [if_pos cb] at hRD
            have eL : Rz.2.2.length = a1.2.2.length + a2.2.2.length + 1 := by rw [eR2]; simp [Nat.add_assoc]
            have hll : (all ++ a1.2.2 ++ a2.2.2).length = b0 + (m0 + (a1.2.2.length + a2.2.2.length)) := by rw [List.length_append, List.length_append]; exact ll3 hb0 hm0
            have v_rd : V23 6000 := hRD.2.1.1
            have k_rd : C24 6000 = .inr (8, [.ref (ad22 6001), .ref (ad22 6002), .ref (ad22 1), .int (iI n), .ref (ad22 6003), .ref (ad22 6005), .int (iI (kC x n a2.2.1)), .int (iI (tF x n a2.2.1)), .int (iI (tT x n a2.2.1)), .int (iI vl26), .int (iI (-1))]) := hRD.2.1.2
            have e_rd : ad22 6000 = ad 6000 := (hOT 6000 (Or.inl (by decide))).1
            have v_tx : V23 1 := hRD.1.1
            have k_tx : C24 1 = .inl (E 1, 300, ai x) := hRD.1.2
            have hst := csN_1 (a1.2.2.length + a2.2.2.length) cap m0
            rw [eL] at hQ hR
            have hq2 : csN (a1.2.2.length + a2.2.2.length + 1) cap m0 ≤ csN (a1.2.2.length + a2.2.2.length + 1) cap m0 ∧ slN (a1.2.2.length + a2.2.2.length + 1) cap m0 ≤ slN (a1.2.2.length + a2.2.2.length + 1) cap m0 := ⟨Nat.le_refl _, Nat.le_refl _⟩
            rw [hst.1, hst.2.1] at hq2
            rw [hst.1, hst.2.1] at hR hQ
            have hgr9 := hgr_l (b0 := b0) (c := cpN (a1.2.2.length + a2.2.2.length) cap m0) hal hp.2 hn.2
            have hpm9 := hpm_l (c := cpN (a1.2.2.length + a2.2.2.length) cap m0) hll
            have hr1 := Nat.le_trans (Nat.le_add_right _ _) hq2.1
            have hr2 := le2 hq2.2
            have hr4 := le3 hq2.2
            have hOa : ∀ q, (q ≠ 7000 + (all ++ a1.2.2 ++ a2.2.2).length) → ad22 q = ad22 q := fun _ _ => rfl
            have hOc : ∀ q, (q ≠ 7000 + (all ++ a1.2.2 ++ a2.2.2).length) → C24 q = C24 q := fun _ _ => rfl
            have e_rd0 := e_rd
            have hnl : 6000 ≠ 7000 + (all ++ a1.2.2 ++ a2.2.2).length := by omega
            refine lv_aload_n hx hb dX9_test_176 rfl (lv_at hl 1 rfl) ?_
            refine a_new (ci := 7) (fs := [.int (iI 0)]) tyX8 hCK hG hS hA (7000 + (all ++ a1.2.2 ++ a2.2.2).length) in_X8 tyX8_ok q515 q516 q85 rfl (by decide) (by rw [hR]; exact hr1) (by rw [hR]; exact hr2) dX9_test_177 (fun x28 ad29 C30 H e_it k_it oo33 hG hS oh34 => ?_)
            obtain ⟨V35, hV35⟩ : ∃ X : Nat → Prop, X = fun q => V23 q ∨ q = 7000 + (all ++ a1.2.2 ++ a2.2.2).length := ⟨_, rfl⟩
            rw [← hV35] at hG
            have v_rd : V35 6000 := by rw [hV35]; exact Or.inl v_rd
            have e_rd : ad29 6000 = (ad 6000) := (oo33 6000 (by first | exact hq | exact hnl)).1.trans e_rd
            have k_rd : C30 6000 = .inr (8, [.ref (ad22 6001), .ref (ad22 6002), .ref (ad22 1), .int (iI n), .ref (ad22 6003), .ref (ad22 6005), .int (iI (kC x n a2.2.1)), .int (iI (tF x n a2.2.1)), .int (iI (tT x n a2.2.1)), .int (iI vl26), .int (iI (-1))]) := (oo33 6000 (by first | exact hq | exact hnl)).2.trans k_rd
            have v_it : V35 (7000 + (all ++ a1.2.2 ++ a2.2.2).length) := by rw [hV35]; exact Or.inr rfl
            have hOa : ∀ q, (q ≠ 7000 + (all ++ a1.2.2 ++ a2.2.2).length) → ad29 q = ad22 q := fun q hq => (oo33 q (by first | exact hq | exact hnl)).1.trans (hOa q hq)
            have hOc : ∀ q, (q ≠ 7000 + (all ++ a1.2.2 ++ a2.2.2).length) → C30 q = C24 q := fun q hq => (oo33 q (by first | exact hq | exact hnl)).2.trans (hOc q hq)
            refine lv_dup hx hb dX9_test_180 rfl ?_
            refine lv_iload_n hx hb dX9_test_181 rfl (lv_at hl 0 rfl) ?_
            refine a_callv (a_runI (n := 1) (b := x28) (rest := [.ref x28, .ref (ad 6000)]) (as := [.int (iI (kC x n a1.2.1))]) hCK hE hA hml (met_xi8 l adK adV st D E A V35 ad29 C30 (7000 + (all ++ a1.2.2 ++ a2.2.2).length) x28 (kC x n a1.2.1) v_it e_it k_it) q517 q518 q85 q519 rfl (by decide +kernel) ⟨rfl, rfl⟩ hR (amr_ok (lv1 (by decide)) (by decide)) ⟨(by rw [hR]; exact hr1), (by rw [hR]; exact hr2)⟩ hG hS rfl hl.1 rfl (Nat.le_of_ble_eq_true rfl) dX9_test_182) hS (fun ad37 V38 C39 H locs hp40 hG hS => ?_)
            obtain ⟨rfl, rfl, kk42, oo41⟩ := hp40
            have k_it : C39 (7000 + (all ++ a1.2.2 ++ a2.2.2).length) = .inr (7, [.int (iI (kC x n a1.2.1))]) := kk42
            have k_rd : C39 6000 = .inr (8, [.ref (ad22 6001), .ref (ad22 6002), .ref (ad22 1), .int (iI n), .ref (ad22 6003), .ref (ad22 6005), .int (iI (kC x n a2.2.1)), .int (iI (tF x n a2.2.1)), .int (iI (tT x n a2.2.1)), .int (iI vl26), .int (iI (-1))]) := (oo41 6000 (by first | exact hq | exact hnl)).trans k_rd
            have hOa : ∀ q, (q ≠ 7000 + (all ++ a1.2.2 ++ a2.2.2).length) → ad29 q = ad22 q := hOa
            have hOc : ∀ q, (q ≠ 7000 + (all ++ a1.2.2 ++ a2.2.2).length) → C39 q = C24 q := fun q hq => (oo41 q (by first | exact hq | exact hnl)).trans (hOc q hq)
            have hmk : C39 (7000 + (all ++ a1.2.2 ++ a2.2.2).length) = mkE (if tV x n a1.2.1 = 60 then 6 else if tV x n a1.2.1 = 62 then 7 else 8) 0 := by
              rw [k_it]
              rcases hk2 with q | q | q
              · rw [if_pos q.2, q.1]; rfl
              · rw [if_neg (by rw [q.2]; decide), if_pos q.2, q.1]; rfl
              · rw [if_neg (by rw [q.2]; decide), if_neg (by rw [q.2]; decide), q.1]; rfl
            have hM := met_puts l adK adV st D E A V35 ad29 C39 V23 ad22 C24 x n (kC x n a2.2.1) (tF x n a2.2.1) (tT x n a2.2.1) vl26 (-1) mo27 (cpN (a1.2.2.length + a2.2.2.length) cap m0) b0 (all ++ a1.2.2 ++ a2.2.2) (if tV x n a1.2.1 = 60 then 6 else if tV x n a1.2.1 = 62 then 7 else 8) 0 x28 hRD hV35 (fun q hq => ⟨hOa q hq, hOc q hq⟩) hmk e_it hgr9 (if m0 + (a1.2.2.length + a2.2.2.length) = cpN (a1.2.2.length + a2.2.2.length) cap m0 then 1 else 0) (if m0 + (a1.2.2.length + a2.2.2.length) = cpN (a1.2.2.length + a2.2.2.length) cap m0 then cpN (a1.2.2.length + a2.2.2.length) cap m0 + cpN (a1.2.2.length + a2.2.2.length) cap m0 / 2 else 0) hpm9
            rw [e_rd0] at hM
            refine a_calli (a_runV (n := 1) (C0 := RX9) (b := (ad 6000)) (rest := []) (as := [.ref x28]) hCK hE hA hml (hM) (by have h := g_rec (r := 6000) (ci := 8) hK hG v_rd rfl k_rd; rw [e_rd] at h; exact h) q528 q530 qs10 q86 q531 (by decide +kernel) ⟨rfl, rfl⟩ hR (amr_ok (lv1 (by decide)) (by decide)) ⟨(by rw [hR]; exact hq2.1), (by rw [hR]; exact hr4)⟩ hG hS rfl hl.1 rfl (Nat.le_of_ble_eq_true rfl) dX9_test_185) hS (fun z43 ad44 V45 C46 H locs hp47 hG hS => ?_)
            obtain ⟨rfl, mo48, cap49, hcp9, hRD, hot9⟩ := hp47
            have hOT := hOT.tr hot9 (by first | exact Nat.le_refl _ | (rw [List.length_append]; exact Nat.le_add_right _ _) | (rw [List.length_append, List.length_append]; exact Nat.le_trans (Nat.le_add_right _ _) (Nat.le_add_right _ _)))
            refine W.eq (g2 := F0 m 188 ls [.int (iI 1)]) rfl ?_
            have v_rd : V45 6000 := hRD.2.1.1
            have k_rd : C46 6000 = .inr (8, [.ref (ad44 6001), .ref (ad44 6002), .ref (ad44 1), .int (iI n), .ref (ad44 6003), .ref (ad44 6005), .int (iI (kC x n a2.2.1)), .int (iI (tF x n a2.2.1)), .int (iI (tT x n a2.2.1)), .int (iI vl26), .int (iI (-1))]) := hRD.2.1.2
            have e_rd : ad44 6000 = ad 6000 := (hOT 6000 (Or.inl (by decide))).1
            have v_tx : V45 1 := hRD.1.1
            have k_tx : C46 1 = .inl (E 1, 300, ai x) := hRD.1.2
            have hcp : cap49 = cpN (a1.2.2.length + a2.2.2.length + 1) cap m0 := (cp_step hcp9 hll).trans hst.2.2.symm
            rw [hcp] at hRD
            clear hcp9
            refine r_if_eq (tgt := 195) hx hb dX9_test_188 (by decide) (by decide) (fun c50 => absurd c50 (by decide)) (fun c50 => ?_)
            refine r_iconst hx hb dX9_test_191 ?_
            refine lv_goto (tgt := 196) hx hb dX9_test_192 (by decide) ?_
            exact a_zret hCK hQ hr hlk hG hS hq2.1 hr4 (by decide) dX9_test_196 (⟨by rw [eR2]; rfl, ⟨vl26, mo48, by rw [eL, eR2, ← hm0]; rw [show all ++ (a1.2.2 ++ (a2.2.2 ++ [(if tV x n a1.2.1 = 60 then 6 else if tV x n a1.2.1 = 62 then 7 else 8, (0 : Int))])) = all ++ a1.2.2 ++ a2.2.2 ++ [(if tV x n a1.2.1 = 60 then 6 else if tV x n a1.2.1 = 62 then 7 else 8, 0)] by simp only [List.append_assoc]]; exact hRD, by rw [eR2]; exact hNA⟩, hOT⟩)
        refine r_icmp_eq (tgt := 157) hx hb dX9_test_142 (by decide) (kC_R _ _ _) (by decide) (fun c51 => ?_) (fun c51 => ?_)
        · exact hop (by omega)
        · refine lv_iload_n hx hb dX9_test_145 rfl (lv_at hl 0 rfl) ?_
          refine r_bipush hx hb dX9_test_146 (by decide) ?_
          refine r_icmp_eq (tgt := 157) hx hb dX9_test_148 (by decide) (kC_R _ _ _) (by decide) (fun c52 => ?_) (fun c52 => ?_)
          · exact hop (by omega)
          · refine lv_iload_n hx hb dX9_test_151 rfl (lv_at hl 0 rfl) ?_
            refine r_bipush hx hb dX9_test_152 (by decide) ?_
            refine r_icmp_ne (tgt := 161) hx hb dX9_test_154 (by decide) (kC_R _ _ _) (by decide) (fun c53 => ?_) (fun c53 => ?_)
            · rw [if_neg (show ¬ (tK x n a1.2.1 = 3 ∧ (tV x n a1.2.1 = 60 ∨ tV x n a1.2.1 = 62 ∨ tV x n a1.2.1 = 61)) by omega)] at eR
              have eR : Rz = (false, a1.2.1, a1.2.2) := by rw [eR]; show (false, a1.2.1, a1.2.2 ++ []) = _; rw [List.append_nil]
              clear hkc hop
              refine r_iconst hx hb dX9_test_161 ?_
              have hM := met_pass l adK adV st D E A V9 ad8 C10 0 (by decide) x n (kC x n a1.2.1) (tF x n a1.2.1) (tT x n a1.2.1) vl12 (-1) hn hbx v_rd k_rd v_tx k_tx (tBT hp) (by decide)
              rw [e_rd] at hM
              refine a_calli (a_runV (n := 1) (C0 := RX9) (b := (ad 6000)) (rest := []) (as := [.int (iI 0)]) hCK hE hA hml (hM) (by have h := g_rec (r := 6000) (ci := 8) hK hG v_rd rfl k_rd; rw [e_rd] at h; exact h) q494 q496 qs6 q86 q497 (by decide +kernel) ⟨rfl, rfl⟩ hR (amr_ok (lv1 (by decide)) (by decide)) ⟨(by rw [hR]; exact hqo.1), (by rw [hR]; exact hqo.2)⟩ hG hS rfl hl.1 rfl (Nat.le_of_ble_eq_true rfl) dX9_test_162) hS (fun z54 ad55 V56 C57 H locs hp58 hG hS => ?_)
              obtain ⟨rfl, rfl, rfl, hcs, o9⟩ := hp58
              have k9 := (hcs.resolve_right (fun h => absurd h.1 (by decide))).2
              rw [if_pos rfl] at k9
              have hRD := hRD.tok k9 o9
              have hOT := hOT.set o9
              have v_rd : V9 6000 := hRD.2.1.1
              have k_rd : C57 6000 = .inr (8, [.ref (ad8 6001), .ref (ad8 6002), .ref (ad8 1), .int (iI n), .ref (ad8 6003), .ref (ad8 6005), .int (iI (kC x n a1.2.1)), .int (iI (tF x n a1.2.1)), .int (iI (tT x n a1.2.1)), .int (iI vl12), .int (iI (tF x n a1.2.1))]) := hRD.2.1.2
              have e_rd : ad8 6000 = ad 6000 := (hOT 6000 (Or.inl (by decide))).1
              have v_tx : V9 1 := hRD.1.1
              have k_tx : C57 1 = .inl (E 1, 300, ai x) := hRD.1.2
              refine W.eq (g2 := F0 m 165 ls [.int (iI 0)]) rfl ?_
              refine r_if_eq (tgt := 195) hx hb dX9_test_165 (by decide) (by decide) (fun c60 => ?_) (fun c60 => absurd c60 (by decide))
              refine r_iconst hx hb dX9_test_195 ?_
              exact a_zret hCK hQ hr hlk hG hS (by rw [eR]; exact Nat.le_refl _) (by rw [eR]; exact Nat.le_refl _) (by decide) dX9_test_196 (⟨by rw [eR]; rfl, ⟨vl12, mo13, by rw [eR, ← hm0]; exact hRD, by rw [eR]; exact hNA⟩, hOT⟩)
            · exact hop (by omega)
      · rw [sq_n ca] at eR
        rw [if_neg ca] at hRD
        refine r_iconst hx hb dX9_test_131 ?_
        exact a_zret hCK hQ hr hlk hG hS (by rw [eR]; exact Nat.le_refl _) (by rw [eR]; exact Nat.le_refl _) (by decide) dX9_test_132 (⟨by rw [eR, if_neg ca], ⟨vl12, mo13, by rw [eR, ← hm0, if_neg ca]; exact hRD, by rw [eR]; exact hNA⟩, hOT⟩)
    · have hk : tK x n p = 3 ∧ tV x n p = 91 := by omega
      rw [if_pos hk] at eR
      clear hkc
      have htk : tK x n p ≠ 0 := by rw [hk.1]; decide
      have hl7 := htb.2.2 htk
      refine lv_aload_n hx hb dX9_test_68 rfl (lv_at hl 0 rfl) ?_
      refine lv_iload_n hx hb dX9_test_69 rfl (lv_at hl 1 rfl) ?_
      refine r_bipush hx hb dX9_test_70 (by decide) ?_
      refine r_icmp_ge (tgt := 79) hx hb dX9_test_72 (by decide) (by omega) (by decide) (fun c61 => ?_) (fun c61 => ?_)
      · rw [if_pos (show (dn : Int) = 8 by omega)] at eR
        refine r_iconst hx hb dX9_test_79 ?_
        have hM := met_pass l adK adV st D E A V ad C 0 (by decide) x n (kC x n p) (tF x n p) (tT x n p) vl (-1) hn hbx v_rd k_rd v_tx k_tx (tBT hp) (by decide)
        rw [e_rd] at hM
        refine a_calli (a_runV (n := 1) (C0 := RX9) (b := (ad 6000)) (rest := []) (as := [.int (iI 0)]) hCK hE hA hml (hM) (by have h := g_rec (r := 6000) (ci := 8) hK hG v_rd rfl k_rd; rw [e_rd] at h; exact h) q494 q496 qs6 q86 q497 (by decide +kernel) ⟨rfl, rfl⟩ hR (amr_ok (lv1 (by decide)) (by decide)) ⟨(by rw [hR]; exact (Nat.zero_le _)), (by rw [hR]; exact (Nat.zero_le _))⟩ hG hS rfl hl.1 rfl (Nat.le_of_ble_eq_true rfl) dX9_test_80) hS (fun z62 ad63 V64 C65 H locs hp66 hG hS => ?_)
        obtain ⟨rfl, rfl, rfl, hcs, o9⟩ := hp66
        have k9 := (hcs.resolve_right (fun h => absurd h.1 (by decide))).2
        rw [if_pos rfl] at k9
        have hRD := hRD.tok k9 o9
        have hOT := hOT.set o9
        have v_rd : V 6000 := hRD.2.1.1
        have k_rd : C65 6000 = .inr (8, [.ref (ad 6001), .ref (ad 6002), .ref (ad 1), .int (iI n), .ref (ad 6003), .ref (ad 6005), .int (iI (kC x n p)), .int (iI (tF x n p)), .int (iI (tT x n p)), .int (iI vl), .int (iI (tF x n p))]) := hRD.2.1.2
        have e_rd : ad 6000 = ad 6000 := (hOT 6000 (Or.inl (by decide))).1
        have v_tx : V 1 := hRD.1.1
        have k_tx : C65 1 = .inl (E 1, 300, ai x) := hRD.1.2
        refine W.eq (g2 := F0 m 83 ls [.int (iI 0)]) rfl ?_
        refine r_if_eq (tgt := 121) hx hb dX9_test_83 (by decide) (by decide) (fun c68 => ?_) (fun c68 => absurd c68 (by decide))
        have eR : Rz = (false, p, []) := eR
        refine r_iconst hx hb dX9_test_121 ?_
        exact a_zret hCK hQ hr hlk hG hS (Nat.zero_le _) (Nat.zero_le _) (by decide) dX9_test_122 (⟨by rw [eR]; rfl, ⟨vl, mo, by rw [eR]; exact app_nil hRD, by rw [eR]; exact hNA⟩, hOT⟩)
      · have hd8 : dn < 8 := by omega
        rw [if_neg (show ¬ (dn : Int) = 8 by omega)] at eR
        refine r_iconst hx hb dX9_test_75 ?_
        refine lv_goto (tgt := 80) hx hb dX9_test_76 (by decide) ?_
        have hM := met_pass l adK adV st D E A V ad C 1 (by decide) x n (kC x n p) (tF x n p) (tT x n p) vl (-1) hn hbx v_rd k_rd v_tx k_tx (tBT hp) (by decide)
        rw [e_rd] at hM
        refine a_calli (a_runV (n := 1) (C0 := RX9) (b := (ad 6000)) (rest := []) (as := [.int (iI 1)]) hCK hE hA hml (hM) (by have h := g_rec (r := 6000) (ci := 8) hK hG v_rd rfl k_rd; rw [e_rd] at h; exact h) q494 q496 qs6 q86 q497 (by decide +kernel) ⟨rfl, rfl⟩ hR (amr_ok (lv1 (by decide)) (by decide)) ⟨(by rw [hR]; exact (Nat.zero_le _)), (by rw [hR]; exact (Nat.zero_le _))⟩ hG hS rfl hl.1 rfl (Nat.le_of_ble_eq_true rfl) dX9_test_80) hS (fun z69 ad70 V71 C72 H locs hp73 hG hS => ?_)
        obtain ⟨rfl, rfl, rfl, hcs, o9⟩ := hp73
        obtain ⟨vl74, k9, hNA⟩ := (hcs.resolve_left (fun h => absurd h.1 (by decide))).2
        have hRD := hRD.tok k9 o9
        have hOT := hOT.set o9
        have hal : (((all).length : Nat) : Int) ≤ tT x n p := hal_t hp hal
        have hp : 0 ≤ tT x n p ∧ tT x n p ≤ n := tBT hp
        have htb := tB (x := x) hp
        have v_rd : V 6000 := hRD.2.1.1
        have k_rd : C72 6000 = .inr (8, [.ref (ad 6001), .ref (ad 6002), .ref (ad 1), .int (iI n), .ref (ad 6003), .ref (ad 6005), .int (iI (kC x n (tT x n p))), .int (iI (tF x n (tT x n p))), .int (iI (tT x n (tT x n p))), .int (iI vl74), .int (iI (-1))]) := hRD.2.1.2
        have e_rd : ad 6000 = ad 6000 := (hOT 6000 (Or.inl (by decide))).1
        have v_tx : V 1 := hRD.1.1
        have k_tx : C72 1 = .inl (E 1, 300, ai x) := hRD.1.2
        refine W.eq (g2 := F0 m 83 ls [.int (iI 1)]) rfl ?_
        refine r_if_eq (tgt := 121) hx hb dX9_test_83 (by decide) (by decide) (fun c75 => absurd c75 (by decide)) (fun c75 => ?_)
        refine lv_aload_n hx hb dX9_test_86 rfl (lv_at hl 0 rfl) ?_
        refine lv_iload_n hx hb dX9_test_87 rfl (lv_at hl 1 rfl) ?_
        refine r_iconst hx hb dX9_test_88 ?_
        refine r_iadd hx hb dX9_test_89 ?_
        obtain ⟨a1, e_a1⟩ : ∃ a, a = ps x n (g) 6 ((dn + 1 : Nat) : Int) (tT x n p) := ⟨_, rfl⟩
        have l_a1 := ps_len x n (g) 6 ((dn + 1 : Nat) : Int) (tT x n p) hp.2
        rw [← e_a1] at l_a1
        have hM := ih_either (g) (by omega) V ad C72 (tT x n p) vl74 mo cap b0 (all) (dn + 1) (Nat.succ_le_of_lt hd8) hRD hNA hp (by omega) hal
        rw [← e_a1, e_rd] at hM
        have h_mt : (all).length - b0 = m0 := by first | exact hm0.symm | (rw [List.length_append]; exact ll2s hb0 hm0)
        rw [h_mt] at hM
        have ecd : ((dn + 1 : Nat) : Int) = (dn : Int) + 1 := by omega
        rw [← ecd, ← e_a1] at eR
        have hRl1 : a1.2.2.length ≤ Rz.2.2.length := by rw [eR]; exact sq_len _ _
        have hq1 := csN_le cap m0 hRl1
        rw [ecd] at hM
        refine a_calli (a_runV (n := 1) (C0 := RX9) (b := (ad 6000)) (rest := []) (as := [.int (iI ((dn : Int) + 1))]) hCK hE hA hml (hM) (by have h := g_rec (r := 6000) (ci := 8) hK hG v_rd rfl k_rd; rw [e_rd] at h; exact h) q502 q504 qs7 q86 q505 (by decide +kernel) ⟨rfl, rfl⟩ hR (amr_ok (lv3 (by decide) hd8) (by decide)) ⟨(by rw [hR]; exact (show 0 + _ ≤ _ from by rw [Nat.zero_add]; exact hq1.1)), (by rw [hR]; exact (show 0 + _ ≤ _ from by rw [Nat.zero_add]; exact hq1.2))⟩ hG hS rfl hl.1 rfl (Nat.le_of_ble_eq_true rfl) dX9_test_90) hS (fun z76 ad77 V78 C79 H locs hp80 hG hS => ?_)
        obtain ⟨rfl, ⟨vl81, mo82, hRD, hNA⟩, hot9⟩ := hp80
        have hOT := hOT.tr hot9 (by first | exact Nat.le_refl _ | (rw [List.length_append]; exact Nat.le_add_right _ _) | (rw [List.length_append, List.length_append]; exact Nat.le_trans (Nat.le_add_right _ _) (Nat.le_add_right _ _)))
        rw [h_mt] at hRD
        have hp : 0 ≤ a1.2.1 ∧ a1.2.1 ≤ n := ⟨Int.le_trans hp.1 l_a1.1.1, l_a1.1.2⟩
        have htb := tB (x := x) hp
        have hal : (((all ++ a1.2.2).length : Nat) : Int) ≤ a1.2.1 := by rw [List.length_append]; exact hal_2 hal l_a1.2
        refine W.eq (g2 := F0 m 93 ls [.int (iI (if a1.1 = true then 1 else 0))]) rfl ?_
        refine W.widen (k := csN (a1.2.2.length) cap m0) (n := slN (a1.2.2.length) cap m0) (by rw [Nat.zero_add]; exact Nat.le_refl _) (by rw [Nat.zero_add]; exact Nat.le_refl _) ?_
        refine r_ifeqB (tgt := 121) hx hb dX9_test_93 (by decide) (fun ca => ?_) (fun ca => ?_)
        · rw [sq_n ca] at eR
          rw [if_neg ca] at hRD
          refine r_iconst hx hb dX9_test_121 ?_
          exact a_zret hCK hQ hr hlk hG hS (by rw [eR]; exact Nat.le_refl _) (by rw [eR]; exact Nat.le_refl _) (by decide) dX9_test_122 (⟨by rw [eR, if_neg ca], ⟨vl81, mo82, by rw [eR, ← hm0, if_neg ca]; exact hRD, by rw [eR]; exact hNA⟩, hOT⟩)
        · rw [sq_y ca] at eR
          rw [if_pos ca] at hRD
          have hkc := kC_cases x n a1.2.1
          have eL : Rz.2.2.length = a1.2.2.length := by rw [eR]; show (a1.2.2 ++ (if _ then _ else _ : PR).2.2).length = _; split <;> (show (a1.2.2 ++ []).length = _; rw [List.append_nil])
          rw [eL] at hQ hR
          have v_rd : V78 6000 := hRD.2.1.1
          have k_rd : C79 6000 = .inr (8, [.ref (ad77 6001), .ref (ad77 6002), .ref (ad77 1), .int (iI n), .ref (ad77 6003), .ref (ad77 6005), .int (iI (kC x n a1.2.1)), .int (iI (tF x n a1.2.1)), .int (iI (tT x n a1.2.1)), .int (iI vl81), .int (iI (-1))]) := hRD.2.1.2
          have e_rd : ad77 6000 = ad 6000 := (hOT 6000 (Or.inl (by decide))).1
          have v_tx : V78 1 := hRD.1.1
          have k_tx : C79 1 = .inl (E 1, 300, ai x) := hRD.1.2
          refine lv_aload_n hx hb dX9_test_96 rfl (lv_at hl 0 rfl) ?_
          refine lv_aload_n hx hb dX9_test_97 rfl (lv_at hl 0 rfl) ?_
          refine a_get hCK hG 6000 e_rd v_rd k_rd (ci := 8) rfl in_X9 6 (by decide) q330 rfl rfl dX9_test_98 ?_
          refine W.eq (g2 := F0 m 101 ls [.int (iI (kC x n a1.2.1)), .ref (ad 6000)]) rfl ?_
          refine r_bipush hx hb dX9_test_101 (by decide) ?_
          refine r_icmp_ne (tgt := 110) hx hb dX9_test_103 (by decide) (kC_R _ _ _) (by decide) (fun c83 => ?_) (fun c83 => ?_)
          · rw [if_neg (show ¬ (tK x n a1.2.1 = 3 ∧ tV x n a1.2.1 = 93) by omega)] at eR
            have eR : Rz = (false, a1.2.1, a1.2.2) := by rw [eR]; show (false, a1.2.1, a1.2.2 ++ []) = _; rw [List.append_nil]
            clear hkc
            refine r_iconst hx hb dX9_test_110 ?_
            have hM := met_pass l adK adV st D E A V78 ad77 C79 0 (by decide) x n (kC x n a1.2.1) (tF x n a1.2.1) (tT x n a1.2.1) vl81 (-1) hn hbx v_rd k_rd v_tx k_tx (tBT hp) (by decide)
            rw [e_rd] at hM
            refine a_calli (a_runV (n := 1) (C0 := RX9) (b := (ad 6000)) (rest := []) (as := [.int (iI 0)]) hCK hE hA hml (hM) (by have h := g_rec (r := 6000) (ci := 8) hK hG v_rd rfl k_rd; rw [e_rd] at h; exact h) q494 q496 qs6 q86 q497 (by decide +kernel) ⟨rfl, rfl⟩ hR (amr_ok (lv1 (by decide)) (by decide)) ⟨(by rw [hR]; exact (Nat.le_refl _)), (by rw [hR]; exact (Nat.le_refl _))⟩ hG hS rfl hl.1 rfl (Nat.le_of_ble_eq_true rfl) dX9_test_111) hS (fun z84 ad85 V86 C87 H locs hp88 hG hS => ?_)
            obtain ⟨rfl, rfl, rfl, hcs, o9⟩ := hp88
            have k9 := (hcs.resolve_right (fun h => absurd h.1 (by decide))).2
            rw [if_pos rfl] at k9
            have hRD := hRD.tok k9 o9
            have hOT := hOT.set o9
            have v_rd : V78 6000 := hRD.2.1.1
            have k_rd : C87 6000 = .inr (8, [.ref (ad77 6001), .ref (ad77 6002), .ref (ad77 1), .int (iI n), .ref (ad77 6003), .ref (ad77 6005), .int (iI (kC x n a1.2.1)), .int (iI (tF x n a1.2.1)), .int (iI (tT x n a1.2.1)), .int (iI vl81), .int (iI (tF x n a1.2.1))]) := hRD.2.1.2
            have e_rd : ad77 6000 = ad 6000 := (hOT 6000 (Or.inl (by decide))).1
            have v_tx : V78 1 := hRD.1.1
            have k_tx : C87 1 = .inl (E 1, 300, ai x) := hRD.1.2
            refine W.eq (g2 := F0 m 114 ls [.int (iI 0)]) rfl ?_
            refine r_if_eq (tgt := 121) hx hb dX9_test_114 (by decide) (by decide) (fun c90 => ?_) (fun c90 => absurd c90 (by decide))
            refine r_iconst hx hb dX9_test_121 ?_
            exact a_zret hCK hQ hr hlk hG hS (Nat.le_refl _) (Nat.le_refl _) (by decide) dX9_test_122 (⟨by rw [eR]; rfl, ⟨vl81, mo82, by rw [eR, ← hm0]; exact hRD, by rw [eR]; exact hNA⟩, hOT⟩)
          · rw [if_pos (show tK x n a1.2.1 = 3 ∧ tV x n a1.2.1 = 93 by omega)] at eR
            have eR : Rz = (true, tT x n a1.2.1, a1.2.2) := by rw [eR]; show (true, tT x n a1.2.1, a1.2.2 ++ []) = _; rw [List.append_nil]
            clear hkc
            refine r_iconst hx hb dX9_test_106 ?_
            refine lv_goto (tgt := 111) hx hb dX9_test_107 (by decide) ?_
            have hM := met_pass l adK adV st D E A V78 ad77 C79 1 (by decide) x n (kC x n a1.2.1) (tF x n a1.2.1) (tT x n a1.2.1) vl81 (-1) hn hbx v_rd k_rd v_tx k_tx (tBT hp) (by decide)
            rw [e_rd] at hM
            refine a_calli (a_runV (n := 1) (C0 := RX9) (b := (ad 6000)) (rest := []) (as := [.int (iI 1)]) hCK hE hA hml (hM) (by have h := g_rec (r := 6000) (ci := 8) hK hG v_rd rfl k_rd; rw [e_rd] at h; exact h) q494 q496 qs6 q86 q497 (by decide +kernel) ⟨rfl, rfl⟩ hR (amr_ok (lv1 (by decide)) (by decide)) ⟨(by rw [hR]; exact (Nat.le_refl _)), (by rw [hR]; exact (Nat.le_refl _))⟩ hG hS rfl hl.1 rfl (Nat.le_of_ble_eq_true rfl) dX9_test_111) hS (fun z91 ad92 V93 C94 H locs hp95 hG hS => ?_)
            obtain ⟨rfl, rfl, rfl, hcs, o9⟩ := hp95
            obtain ⟨vl96, k9, hNA⟩ := (hcs.resolve_left (fun h => absurd h.1 (by decide))).2
            have hRD := hRD.tok k9 o9
            have hOT := hOT.set o9
            have hal : (((all ++ a1.2.2).length : Nat) : Int) ≤ tT x n a1.2.1 := hal_t hp hal
            have hp : 0 ≤ tT x n a1.2.1 ∧ tT x n a1.2.1 ≤ n := tBT hp
            have htb := tB (x := x) hp
            have v_rd : V78 6000 := hRD.2.1.1
            have k_rd : C94 6000 = .inr (8, [.ref (ad77 6001), .ref (ad77 6002), .ref (ad77 1), .int (iI n), .ref (ad77 6003), .ref (ad77 6005), .int (iI (kC x n (tT x n a1.2.1))), .int (iI (tF x n (tT x n a1.2.1))), .int (iI (tT x n (tT x n a1.2.1))), .int (iI vl96), .int (iI (-1))]) := hRD.2.1.2
            have e_rd : ad77 6000 = ad 6000 := (hOT 6000 (Or.inl (by decide))).1
            have v_tx : V78 1 := hRD.1.1
            have k_tx : C94 1 = .inl (E 1, 300, ai x) := hRD.1.2
            refine W.eq (g2 := F0 m 114 ls [.int (iI 1)]) rfl ?_
            refine r_if_eq (tgt := 121) hx hb dX9_test_114 (by decide) (by decide) (fun c97 => absurd c97 (by decide)) (fun c97 => ?_)
            refine r_iconst hx hb dX9_test_117 ?_
            refine lv_goto (tgt := 122) hx hb dX9_test_118 (by decide) ?_
            exact a_zret hCK hQ hr hlk hG hS (Nat.le_refl _) (Nat.le_refl _) (by decide) dX9_test_122 (⟨by rw [eR]; rfl, ⟨vl96, mo82, by rw [eR, ← hm0]; exact hRD, by rw [eR]; exact hNA⟩, hOT⟩)
  · have hw : tK x n p = 2 ∧ tV x n p = 11 := hwk.mp cw
    rw [if_pos hw] at eR
    have htk : tK x n p ≠ 0 := by rw [hw.1]; decide
    have hl7 := htb.2.2 htk
    refine lv_aload_n hx hb dX9_test_9 rfl (lv_at hl 0 rfl) ?_
    refine lv_iload_n hx hb dX9_test_10 rfl (lv_at hl 1 rfl) ?_
    refine r_bipush hx hb dX9_test_11 (by decide) ?_
    refine r_icmp_ge (tgt := 20) hx hb dX9_test_13 (by decide) (by omega) (by decide) (fun c98 => ?_) (fun c98 => ?_)
    · rw [if_pos (show (dn : Int) = 8 by omega)] at eR
      refine r_iconst hx hb dX9_test_20 ?_
      have hM := met_pass l adK adV st D E A V ad C 0 (by decide) x n (kC x n p) (tF x n p) (tT x n p) vl (-1) hn hbx v_rd k_rd v_tx k_tx (tBT hp) (by decide)
      rw [e_rd] at hM
      refine a_calli (a_runV (n := 1) (C0 := RX9) (b := (ad 6000)) (rest := []) (as := [.int (iI 0)]) hCK hE hA hml (hM) (by have h := g_rec (r := 6000) (ci := 8) hK hG v_rd rfl k_rd; rw [e_rd] at h; exact h) q494 q496 qs6 q86 q497 (by decide +kernel) ⟨rfl, rfl⟩ hR (amr_ok (lv1 (by decide)) (by decide)) ⟨(by rw [hR]; exact (Nat.zero_le _)), (by rw [hR]; exact (Nat.zero_le _))⟩ hG hS rfl hl.1 rfl (Nat.le_of_ble_eq_true rfl) dX9_test_21) hS (fun z99 ad100 V101 C102 H locs hp103 hG hS => ?_)
      obtain ⟨rfl, rfl, rfl, hcs, o9⟩ := hp103
      have k9 := (hcs.resolve_right (fun h => absurd h.1 (by decide))).2
      rw [if_pos rfl] at k9
      have hRD := hRD.tok k9 o9
      have hOT := hOT.set o9
      have v_rd : V 6000 := hRD.2.1.1
      have k_rd : C102 6000 = .inr (8, [.ref (ad 6001), .ref (ad 6002), .ref (ad 1), .int (iI n), .ref (ad 6003), .ref (ad 6005), .int (iI (kC x n p)), .int (iI (tF x n p)), .int (iI (tT x n p)), .int (iI vl), .int (iI (tF x n p))]) := hRD.2.1.2
      have e_rd : ad 6000 = ad 6000 := (hOT 6000 (Or.inl (by decide))).1
      have v_tx : V 1 := hRD.1.1
      have k_tx : C102 1 = .inl (E 1, 300, ai x) := hRD.1.2
      refine W.eq (g2 := F0 m 24 ls [.int (iI 0)]) rfl ?_
      refine r_if_eq (tgt := 57) hx hb dX9_test_24 (by decide) (by decide) (fun c105 => ?_) (fun c105 => absurd c105 (by decide))
      have eR : Rz = (false, p, []) := eR
      refine r_iconst hx hb dX9_test_57 ?_
      exact a_zret hCK hQ hr hlk hG hS (Nat.zero_le _) (Nat.zero_le _) (by decide) dX9_test_58 (⟨by rw [eR]; rfl, ⟨vl, mo, by rw [eR]; exact app_nil hRD, by rw [eR]; exact hNA⟩, hOT⟩)
    · have hd8 : dn < 8 := by omega
      rw [if_neg (show ¬ (dn : Int) = 8 by omega)] at eR
      refine r_iconst hx hb dX9_test_16 ?_
      refine lv_goto (tgt := 21) hx hb dX9_test_17 (by decide) ?_
      have hM := met_pass l adK adV st D E A V ad C 1 (by decide) x n (kC x n p) (tF x n p) (tT x n p) vl (-1) hn hbx v_rd k_rd v_tx k_tx (tBT hp) (by decide)
      rw [e_rd] at hM
      refine a_calli (a_runV (n := 1) (C0 := RX9) (b := (ad 6000)) (rest := []) (as := [.int (iI 1)]) hCK hE hA hml (hM) (by have h := g_rec (r := 6000) (ci := 8) hK hG v_rd rfl k_rd; rw [e_rd] at h; exact h) q494 q496 qs6 q86 q497 (by decide +kernel) ⟨rfl, rfl⟩ hR (amr_ok (lv1 (by decide)) (by decide)) ⟨(by rw [hR]; exact (Nat.zero_le _)), (by rw [hR]; exact (Nat.zero_le _))⟩ hG hS rfl hl.1 rfl (Nat.le_of_ble_eq_true rfl) dX9_test_21) hS (fun z106 ad107 V108 C109 H locs hp110 hG hS => ?_)
      obtain ⟨rfl, rfl, rfl, hcs, o9⟩ := hp110
      obtain ⟨vl111, k9, hNA⟩ := (hcs.resolve_left (fun h => absurd h.1 (by decide))).2
      have hRD := hRD.tok k9 o9
      have hOT := hOT.set o9
      have hal : (((all).length : Nat) : Int) ≤ tT x n p := hal_t hp hal
      have hp : 0 ≤ tT x n p ∧ tT x n p ≤ n := tBT hp
      have htb := tB (x := x) hp
      have v_rd : V 6000 := hRD.2.1.1
      have k_rd : C109 6000 = .inr (8, [.ref (ad 6001), .ref (ad 6002), .ref (ad 1), .int (iI n), .ref (ad 6003), .ref (ad 6005), .int (iI (kC x n (tT x n p))), .int (iI (tF x n (tT x n p))), .int (iI (tT x n (tT x n p))), .int (iI vl111), .int (iI (-1))]) := hRD.2.1.2
      have e_rd : ad 6000 = ad 6000 := (hOT 6000 (Or.inl (by decide))).1
      have v_tx : V 1 := hRD.1.1
      have k_tx : C109 1 = .inl (E 1, 300, ai x) := hRD.1.2
      refine W.eq (g2 := F0 m 24 ls [.int (iI 1)]) rfl ?_
      refine r_if_eq (tgt := 57) hx hb dX9_test_24 (by decide) (by decide) (fun c112 => absurd c112 (by decide)) (fun c112 => ?_)
      refine lv_aload_n hx hb dX9_test_27 rfl (lv_at hl 0 rfl) ?_
      refine lv_iload_n hx hb dX9_test_28 rfl (lv_at hl 1 rfl) ?_
      refine r_iconst hx hb dX9_test_29 ?_
      refine r_iadd hx hb dX9_test_30 ?_
      obtain ⟨a1, e_a1⟩ : ∃ a, a = ps x n (g) 10 ((dn + 1 : Nat) : Int) (tT x n p) := ⟨_, rfl⟩
      have l_a1 := ps_len x n (g) 10 ((dn + 1 : Nat) : Int) (tT x n p) hp.2
      rw [← e_a1] at l_a1
      have hM := ih_test (g) (by omega) V ad C109 (tT x n p) vl111 mo cap b0 (all) (dn + 1) (Nat.succ_le_of_lt hd8) hRD hNA hp (by omega) hal
      rw [← e_a1, e_rd] at hM
      have h_mt : (all).length - b0 = m0 := by first | exact hm0.symm | (rw [List.length_append]; exact ll2s hb0 hm0)
      rw [h_mt] at hM
      have ecd : ((dn + 1 : Nat) : Int) = (dn : Int) + 1 := by omega
      rw [← ecd, ← e_a1] at eR
      have hRl1 : a1.2.2.length ≤ Rz.2.2.length := by rw [eR]; exact sq_len _ _
      have hq1 := csN_le cap m0 hRl1
      rw [ecd] at hM
      refine a_calli (a_runV (n := 1) (C0 := RX9) (b := (ad 6000)) (rest := []) (as := [.int (iI ((dn : Int) + 1))]) hCK hE hA hml (hM) (by have h := g_rec (r := 6000) (ci := 8) hK hG v_rd rfl k_rd; rw [e_rd] at h; exact h) q510 q512 qs9 q86 q513 (by decide +kernel) ⟨rfl, rfl⟩ hR (amr_ok (lv3 (by decide) hd8) (by decide)) ⟨(by rw [hR]; exact (show 0 + _ ≤ _ from by rw [Nat.zero_add]; exact hq1.1)), (by rw [hR]; exact (show 0 + _ ≤ _ from by rw [Nat.zero_add]; exact hq1.2))⟩ hG hS rfl hl.1 rfl (Nat.le_of_ble_eq_true rfl) dX9_test_31) hS (fun z113 ad114 V115 C116 H locs hp117 hG hS => ?_)
      obtain ⟨rfl, ⟨vl118, mo119, hRD, hNA⟩, hot9⟩ := hp117
      have hOT := hOT.tr hot9 (by first | exact Nat.le_refl _ | (rw [List.length_append]; exact Nat.le_add_right _ _) | (rw [List.length_append, List.length_append]; exact Nat.le_trans (Nat.le_add_right _ _) (Nat.le_add_right _ _)))
      rw [h_mt] at hRD
      have hp : 0 ≤ a1.2.1 ∧ a1.2.1 ≤ n := ⟨Int.le_trans hp.1 l_a1.1.1, l_a1.1.2⟩
      have htb := tB (x := x) hp
      have hal : (((all ++ a1.2.2).length : Nat) : Int) ≤ a1.2.1 := by rw [List.length_append]; exact hal_2 hal l_a1.2
      refine W.eq (g2 := F0 m 34 ls [.int (iI (if a1.1 = true then 1 else 0))]) rfl ?_
      refine W.widen (k := csN (a1.2.2.length) cap m0) (n := slN (a1.2.2.length) cap m0) (by rw [Nat.zero_add]; exact Nat.le_refl _) (by rw [Nat.zero_add]; exact Nat.le_refl _) ?_
      refine r_ifeqB (tgt := 57) hx hb dX9_test_34 (by decide) (fun ca => ?_) (fun ca => ?_)
      · rw [sq_n ca] at eR
        rw [if_neg ca] at hRD
        refine r_iconst hx hb dX9_test_57 ?_
        exact a_zret hCK hQ hr hlk hG hS (by rw [eR]; exact Nat.le_refl _) (by rw [eR]; exact Nat.le_refl _) (by decide) dX9_test_58 (⟨by rw [eR, if_neg ca], ⟨vl118, mo119, by rw [eR, ← hm0, if_neg ca]; exact hRD, by rw [eR]; exact hNA⟩, hOT⟩)
      · rw [sq_y ca] at eR
        have eR2 : Rz = (true, a1.2.1, a1.2.2 ++ [(11, 0)]) := eR
        rw [if_pos ca] at hRD
        have eL : Rz.2.2.length = a1.2.2.length + 1 := by rw [eR2]; simp
        have hll : (all ++ a1.2.2).length = b0 + (m0 + a1.2.2.length) := by rw [List.length_append]; exact ll2 hb0 hm0
        have v_rd : V115 6000 := hRD.2.1.1
        have k_rd : C116 6000 = .inr (8, [.ref (ad114 6001), .ref (ad114 6002), .ref (ad114 1), .int (iI n), .ref (ad114 6003), .ref (ad114 6005), .int (iI (kC x n a1.2.1)), .int (iI (tF x n a1.2.1)), .int (iI (tT x n a1.2.1)), .int (iI vl118), .int (iI (-1))]) := hRD.2.1.2
        have e_rd : ad114 6000 = ad 6000 := (hOT 6000 (Or.inl (by decide))).1
        have v_tx : V115 1 := hRD.1.1
        have k_tx : C116 1 = .inl (E 1, 300, ai x) := hRD.1.2
        have hst := csN_1 (a1.2.2.length) cap m0
        rw [eL] at hQ hR
        have hq2 : csN (a1.2.2.length + 1) cap m0 ≤ csN (a1.2.2.length + 1) cap m0 ∧ slN (a1.2.2.length + 1) cap m0 ≤ slN (a1.2.2.length + 1) cap m0 := ⟨Nat.le_refl _, Nat.le_refl _⟩
        rw [hst.1, hst.2.1] at hq2
        rw [hst.1, hst.2.1] at hR hQ
        have hgr9 := hgr_l (b0 := b0) (c := cpN (a1.2.2.length) cap m0) hal hp.2 hn.2
        have hpm9 := hpm_l (c := cpN (a1.2.2.length) cap m0) hll
        have hr1 := Nat.le_trans (Nat.le_add_right _ _) hq2.1
        have hr2 := le2 hq2.2
        have hr4 := le3 hq2.2
        have hOa : ∀ q, (q ≠ 7000 + (all ++ a1.2.2).length) → ad114 q = ad114 q := fun _ _ => rfl
        have hOc : ∀ q, (q ≠ 7000 + (all ++ a1.2.2).length) → C116 q = C116 q := fun _ _ => rfl
        have e_rd0 := e_rd
        have hnl : 6000 ≠ 7000 + (all ++ a1.2.2).length := by omega
        refine lv_aload_n hx hb dX9_test_37 rfl (lv_at hl 0 rfl) ?_
        refine a_new (ci := 7) (fs := [.int (iI 0)]) tyX8 hCK hG hS hA (7000 + (all ++ a1.2.2).length) in_X8 tyX8_ok q515 q516 q85 rfl (by decide) (by rw [hR]; exact hr1) (by rw [hR]; exact hr2) dX9_test_38 (fun x120 ad121 C122 H e_it k_it oo125 hG hS oh126 => ?_)
        obtain ⟨V127, hV127⟩ : ∃ X : Nat → Prop, X = fun q => V115 q ∨ q = 7000 + (all ++ a1.2.2).length := ⟨_, rfl⟩
        rw [← hV127] at hG
        have v_rd : V127 6000 := by rw [hV127]; exact Or.inl v_rd
        have e_rd : ad121 6000 = (ad 6000) := (oo125 6000 (by first | exact hq | exact hnl)).1.trans e_rd
        have k_rd : C122 6000 = .inr (8, [.ref (ad114 6001), .ref (ad114 6002), .ref (ad114 1), .int (iI n), .ref (ad114 6003), .ref (ad114 6005), .int (iI (kC x n a1.2.1)), .int (iI (tF x n a1.2.1)), .int (iI (tT x n a1.2.1)), .int (iI vl118), .int (iI (-1))]) := (oo125 6000 (by first | exact hq | exact hnl)).2.trans k_rd
        have v_it : V127 (7000 + (all ++ a1.2.2).length) := by rw [hV127]; exact Or.inr rfl
        have hOa : ∀ q, (q ≠ 7000 + (all ++ a1.2.2).length) → ad121 q = ad114 q := fun q hq => (oo125 q (by first | exact hq | exact hnl)).1.trans (hOa q hq)
        have hOc : ∀ q, (q ≠ 7000 + (all ++ a1.2.2).length) → C122 q = C116 q := fun q hq => (oo125 q (by first | exact hq | exact hnl)).2.trans (hOc q hq)
        refine lv_dup hx hb dX9_test_41 rfl ?_
        refine r_bipush hx hb dX9_test_42 (by decide) ?_
        refine a_callv (a_runI (n := 1) (b := x120) (rest := [.ref x120, .ref (ad 6000)]) (as := [.int (iI 33)]) hCK hE hA hml (met_xi8 l adK adV st D E A V127 ad121 C122 (7000 + (all ++ a1.2.2).length) x120 33 v_it e_it k_it) q517 q518 q85 q519 rfl (by decide +kernel) ⟨rfl, rfl⟩ hR (amr_ok (lv1 (by decide)) (by decide)) ⟨(by rw [hR]; exact hr1), (by rw [hR]; exact hr2)⟩ hG hS rfl hl.1 rfl (Nat.le_of_ble_eq_true rfl) dX9_test_44) hS (fun ad129 V130 C131 H locs hp132 hG hS => ?_)
        obtain ⟨rfl, rfl, kk134, oo133⟩ := hp132
        have k_it : C131 (7000 + (all ++ a1.2.2).length) = .inr (7, [.int (iI 33)]) := kk134
        have k_rd : C131 6000 = .inr (8, [.ref (ad114 6001), .ref (ad114 6002), .ref (ad114 1), .int (iI n), .ref (ad114 6003), .ref (ad114 6005), .int (iI (kC x n a1.2.1)), .int (iI (tF x n a1.2.1)), .int (iI (tT x n a1.2.1)), .int (iI vl118), .int (iI (-1))]) := (oo133 6000 (by first | exact hq | exact hnl)).trans k_rd
        have hOa : ∀ q, (q ≠ 7000 + (all ++ a1.2.2).length) → ad121 q = ad114 q := hOa
        have hOc : ∀ q, (q ≠ 7000 + (all ++ a1.2.2).length) → C131 q = C116 q := fun q hq => (oo133 q (by first | exact hq | exact hnl)).trans (hOc q hq)
        have hmk : C131 (7000 + (all ++ a1.2.2).length) = mkE 11 0 := k_it
        have hM := met_puts l adK adV st D E A V127 ad121 C131 V115 ad114 C116 x n (kC x n a1.2.1) (tF x n a1.2.1) (tT x n a1.2.1) vl118 (-1) mo119 (cpN a1.2.2.length cap m0) b0 (all ++ a1.2.2) 11 0 x120 hRD hV127 (fun q hq => ⟨hOa q hq, hOc q hq⟩) hmk e_it hgr9 (if m0 + (a1.2.2.length) = cpN (a1.2.2.length) cap m0 then 1 else 0) (if m0 + (a1.2.2.length) = cpN (a1.2.2.length) cap m0 then cpN (a1.2.2.length) cap m0 + cpN (a1.2.2.length) cap m0 / 2 else 0) hpm9
        rw [e_rd0] at hM
        refine a_calli (a_runV (n := 1) (C0 := RX9) (b := (ad 6000)) (rest := []) (as := [.ref x120]) hCK hE hA hml (hM) (by have h := g_rec (r := 6000) (ci := 8) hK hG v_rd rfl k_rd; rw [e_rd] at h; exact h) q528 q530 qs10 q86 q531 (by decide +kernel) ⟨rfl, rfl⟩ hR (amr_ok (lv1 (by decide)) (by decide)) ⟨(by rw [hR]; exact hq2.1), (by rw [hR]; exact hr4)⟩ hG hS rfl hl.1 rfl (Nat.le_of_ble_eq_true rfl) dX9_test_47) hS (fun z135 ad136 V137 C138 H locs hp139 hG hS => ?_)
        obtain ⟨rfl, mo140, cap141, hcp9, hRD, hot9⟩ := hp139
        have hOT := hOT.tr hot9 (by first | exact Nat.le_refl _ | (rw [List.length_append]; exact Nat.le_add_right _ _) | (rw [List.length_append, List.length_append]; exact Nat.le_trans (Nat.le_add_right _ _) (Nat.le_add_right _ _)))
        refine W.eq (g2 := F0 m 50 ls [.int (iI 1)]) rfl ?_
        have v_rd : V137 6000 := hRD.2.1.1
        have k_rd : C138 6000 = .inr (8, [.ref (ad136 6001), .ref (ad136 6002), .ref (ad136 1), .int (iI n), .ref (ad136 6003), .ref (ad136 6005), .int (iI (kC x n a1.2.1)), .int (iI (tF x n a1.2.1)), .int (iI (tT x n a1.2.1)), .int (iI vl118), .int (iI (-1))]) := hRD.2.1.2
        have e_rd : ad136 6000 = ad 6000 := (hOT 6000 (Or.inl (by decide))).1
        have v_tx : V137 1 := hRD.1.1
        have k_tx : C138 1 = .inl (E 1, 300, ai x) := hRD.1.2
        have hcp : cap141 = cpN (a1.2.2.length + 1) cap m0 := (cp_step hcp9 hll).trans hst.2.2.symm
        rw [hcp] at hRD
        clear hcp9
        refine r_if_eq (tgt := 57) hx hb dX9_test_50 (by decide) (by decide) (fun c142 => absurd c142 (by decide)) (fun c142 => ?_)
        refine r_iconst hx hb dX9_test_53 ?_
        refine lv_goto (tgt := 58) hx hb dX9_test_54 (by decide) ?_
        exact a_zret hCK hQ hr hlk hG hS hq2.1 hr4 (by decide) dX9_test_58 (⟨by rw [eR2]; rfl, ⟨vl118, mo140, by rw [eL, eR2, ← hm0]; rw [← List.append_assoc]; exact hRD, by rw [eR2]; exact hNA⟩, hOT⟩)

/-- every rule of the grammar, read -/
theorem grm_all (l : Launch) (adK adV st : Nat → Nat) (D : va_G) (E : Nat → ClassId) (A : Nat → Prop) (x : Int → Int) (n : Int) (hn : 0 ≤ n ∧ n ≤ 300) (hbx : Bd x 300 (-128) 127) : ∀ f : Nat, (GM l adK adV st D E A x n yX9_sum cX9_sum 4 2 1 3 f) ∧ (GM l adK adV st D E A x n yX9_product cX9_product 4 1 3 2 f) ∧ (GM l adK adV st D E A x n yX9_factor cX9_factor 3 0 5 1 f) ∧ (GM l adK adV st D E A x n yX9_either cX9_either 3 5 6 6 f) ∧ (GM l adK adV st D E A x n yX9_each cX9_each 3 4 8 5 f) ∧ (GM l adK adV st D E A x n yX9_test cX9_test 3 3 10 4 f) := by
  intro f
  induction f using Nat.strongRecOn with
  | ind f ih =>
    have a1 := fun f1 (h : f1 < f) => (ih f1 h).1
    have a2 := fun f1 (h : f1 < f) => (ih f1 h).2.1
    have a3 := fun f1 (h : f1 < f) => (ih f1 h).2.2.1
    have a4 := fun f1 (h : f1 < f) => (ih f1 h).2.2.2.1
    have a5 := fun f1 (h : f1 < f) => (ih f1 h).2.2.2.2.1
    have a6 := fun f1 (h : f1 < f) => (ih f1 h).2.2.2.2.2
    exact ⟨met_sum l adK adV st D E A x n hn hbx f a2, met_product l adK adV st D E A x n hn hbx f a3, grm_factor l adK adV st D E A x n hn hbx f a1, met_either l adK adV st D E A x n hn hbx f a5, met_each l adK adV st D E A x n hn hbx f a6, grm_test l adK adV st D E A x n hn hbx f a6 a4 a1⟩
