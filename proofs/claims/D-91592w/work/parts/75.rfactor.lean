/-! THE READER: factors -/
set_option maxRecDepth 100000

theorem app_nil {E : Nat → ClassId} {adK : Nat → Nat} {x : Int → Int} {n : Int} {V : Nat → Prop} {ad : Nat → Nat} {C : Nat → va_E} {k fr to vl fa mo : Int} {cap b0 : Nat} {all : List (Int × Int)} (h : RD E adK x n V ad C k fr to vl fa mo cap b0 all) : RD E adK x n V ad C k fr to vl fa mo (cpN ([] : List (Int × Int)).length cap (all.length - b0)) b0 (all ++ []) := by
  rw [List.append_nil]
  exact h
theorem ps_b {a : PR} (h : a.1 = true) : a = (true, a.2.1, a.2.2) := by
  obtain ⟨b, q⟩ := a
  cases b
  · cases h
  · rfl
theorem dX9_factor_0 : decode cX9_factor 0 = .ok (.aload_n 0, 1) := by decide +kernel
theorem dX9_factor_1 : decode cX9_factor 1 = .ok (.getfield 70, 3) := by decide +kernel
theorem dX9_factor_4 : decode cX9_factor 4 = .ok (.bipush 40, 2) := by decide +kernel
theorem dX9_factor_6 : decode cX9_factor 6 = .ok (.if_icmp .ne 58, 3) := by decide +kernel
theorem dX9_factor_9 : decode cX9_factor 9 = .ok (.aload_n 0, 1) := by decide +kernel
theorem dX9_factor_10 : decode cX9_factor 10 = .ok (.iload_n 1, 1) := by decide +kernel
theorem dX9_factor_11 : decode cX9_factor 11 = .ok (.bipush 8, 2) := by decide +kernel
theorem dX9_factor_13 : decode cX9_factor 13 = .ok (.if_icmp .ge 7, 3) := by decide +kernel
theorem dX9_factor_16 : decode cX9_factor 16 = .ok (.iconst 1, 1) := by decide +kernel
theorem dX9_factor_17 : decode cX9_factor 17 = .ok (.goto 4, 3) := by decide +kernel
theorem dX9_factor_20 : decode cX9_factor 20 = .ok (.iconst 0, 1) := by decide +kernel
theorem dX9_factor_21 : decode cX9_factor 21 = .ok (.invokevirtual 126, 3) := by decide +kernel
theorem dX9_factor_24 : decode cX9_factor 24 = .ok (.ifCond .eq 38, 3) := by decide +kernel
theorem dX9_factor_27 : decode cX9_factor 27 = .ok (.aload_n 0, 1) := by decide +kernel
theorem dX9_factor_28 : decode cX9_factor 28 = .ok (.iload_n 1, 1) := by decide +kernel
theorem dX9_factor_29 : decode cX9_factor 29 = .ok (.iconst 1, 1) := by decide +kernel
theorem dX9_factor_30 : decode cX9_factor 30 = .ok (.iadd, 1) := by decide +kernel
theorem dX9_factor_31 : decode cX9_factor 31 = .ok (.invokevirtual 130, 3) := by decide +kernel
theorem dX9_factor_34 : decode cX9_factor 34 = .ok (.ifCond .eq 28, 3) := by decide +kernel
theorem dX9_factor_37 : decode cX9_factor 37 = .ok (.aload_n 0, 1) := by decide +kernel
theorem dX9_factor_38 : decode cX9_factor 38 = .ok (.aload_n 0, 1) := by decide +kernel
theorem dX9_factor_39 : decode cX9_factor 39 = .ok (.getfield 70, 3) := by decide +kernel
theorem dX9_factor_42 : decode cX9_factor 42 = .ok (.bipush 41, 2) := by decide +kernel
theorem dX9_factor_44 : decode cX9_factor 44 = .ok (.if_icmp .ne 7, 3) := by decide +kernel
theorem dX9_factor_47 : decode cX9_factor 47 = .ok (.iconst 1, 1) := by decide +kernel
theorem dX9_factor_48 : decode cX9_factor 48 = .ok (.goto 4, 3) := by decide +kernel
theorem dX9_factor_51 : decode cX9_factor 51 = .ok (.iconst 0, 1) := by decide +kernel
theorem dX9_factor_52 : decode cX9_factor 52 = .ok (.invokevirtual 126, 3) := by decide +kernel
theorem dX9_factor_55 : decode cX9_factor 55 = .ok (.ifCond .eq 7, 3) := by decide +kernel
theorem dX9_factor_58 : decode cX9_factor 58 = .ok (.iconst 1, 1) := by decide +kernel
theorem dX9_factor_59 : decode cX9_factor 59 = .ok (.goto 4, 3) := by decide +kernel
theorem dX9_factor_62 : decode cX9_factor 62 = .ok (.iconst 0, 1) := by decide +kernel
theorem dX9_factor_63 : decode cX9_factor 63 = .ok (.ireturn, 1) := by decide +kernel
theorem dX9_factor_64 : decode cX9_factor 64 = .ok (.aload_n 0, 1) := by decide +kernel
theorem dX9_factor_65 : decode cX9_factor 65 = .ok (.getfield 70, 3) := by decide +kernel
theorem dX9_factor_68 : decode cX9_factor 68 = .ok (.iconst 2, 1) := by decide +kernel
theorem dX9_factor_69 : decode cX9_factor 69 = .ok (.if_icmp .ne 49, 3) := by decide +kernel
theorem dX9_factor_72 : decode cX9_factor 72 = .ok (.aload_n 0, 1) := by decide +kernel
theorem dX9_factor_73 : decode cX9_factor 73 = .ok (.getfield 77, 3) := by decide +kernel
theorem dX9_factor_76 : decode cX9_factor 76 = .ok (.istore_n 2, 1) := by decide +kernel
theorem dX9_factor_77 : decode cX9_factor 77 = .ok (.aload_n 0, 1) := by decide +kernel
theorem dX9_factor_78 : decode cX9_factor 78 = .ok (.iload_n 2, 1) := by decide +kernel
theorem dX9_factor_79 : decode cX9_factor 79 = .ok (.sipush 9999, 3) := by decide +kernel
theorem dX9_factor_82 : decode cX9_factor 82 = .ok (.if_icmp .gt 7, 3) := by decide +kernel
theorem dX9_factor_85 : decode cX9_factor 85 = .ok (.iconst 1, 1) := by decide +kernel
theorem dX9_factor_86 : decode cX9_factor 86 = .ok (.goto 4, 3) := by decide +kernel
theorem dX9_factor_89 : decode cX9_factor 89 = .ok (.iconst 0, 1) := by decide +kernel
theorem dX9_factor_90 : decode cX9_factor 90 = .ok (.invokevirtual 126, 3) := by decide +kernel
theorem dX9_factor_93 : decode cX9_factor 93 = .ok (.ifCond .eq 23, 3) := by decide +kernel
theorem dX9_factor_96 : decode cX9_factor 96 = .ok (.aload_n 0, 1) := by decide +kernel
theorem dX9_factor_97 : decode cX9_factor 97 = .ok (.new 133, 3) := by decide +kernel
theorem dX9_factor_100 : decode cX9_factor 100 = .ok (.dup, 1) := by decide +kernel
theorem dX9_factor_101 : decode cX9_factor 101 = .ok (.iload_n 2, 1) := by decide +kernel
theorem dX9_factor_102 : decode cX9_factor 102 = .ok (.iconst 0, 1) := by decide +kernel
theorem dX9_factor_103 : decode cX9_factor 103 = .ok (.invokespecial 135, 3) := by decide +kernel
theorem dX9_factor_106 : decode cX9_factor 106 = .ok (.invokevirtual 119, 3) := by decide +kernel
theorem dX9_factor_109 : decode cX9_factor 109 = .ok (.ifCond .eq 7, 3) := by decide +kernel
theorem dX9_factor_112 : decode cX9_factor 112 = .ok (.iconst 1, 1) := by decide +kernel
theorem dX9_factor_113 : decode cX9_factor 113 = .ok (.goto 4, 3) := by decide +kernel
theorem dX9_factor_116 : decode cX9_factor 116 = .ok (.iconst 0, 1) := by decide +kernel
theorem dX9_factor_117 : decode cX9_factor 117 = .ok (.ireturn, 1) := by decide +kernel
theorem dX9_factor_118 : decode cX9_factor 118 = .ok (.aload_n 0, 1) := by decide +kernel
theorem dX9_factor_119 : decode cX9_factor 119 = .ok (.aload_n 0, 1) := by decide +kernel
theorem dX9_factor_120 : decode cX9_factor 120 = .ok (.getfield 35, 3) := by decide +kernel
theorem dX9_factor_123 : decode cX9_factor 123 = .ok (.invokevirtual 138, 3) := by decide +kernel
theorem dX9_factor_126 : decode cX9_factor 126 = .ok (.istore_n 2, 1) := by decide +kernel
theorem dX9_factor_127 : decode cX9_factor 127 = .ok (.aload_n 0, 1) := by decide +kernel
theorem dX9_factor_128 : decode cX9_factor 128 = .ok (.iload_n 2, 1) := by decide +kernel
theorem dX9_factor_129 : decode cX9_factor 129 = .ok (.iconst (-1), 1) := by decide +kernel
theorem dX9_factor_130 : decode cX9_factor 130 = .ok (.if_icmp .eq 7, 3) := by decide +kernel
theorem dX9_factor_133 : decode cX9_factor 133 = .ok (.iconst 1, 1) := by decide +kernel
theorem dX9_factor_134 : decode cX9_factor 134 = .ok (.goto 4, 3) := by decide +kernel
theorem dX9_factor_137 : decode cX9_factor 137 = .ok (.iconst 0, 1) := by decide +kernel
theorem dX9_factor_138 : decode cX9_factor 138 = .ok (.invokevirtual 126, 3) := by decide +kernel
theorem dX9_factor_141 : decode cX9_factor 141 = .ok (.ifCond .eq 23, 3) := by decide +kernel
theorem dX9_factor_144 : decode cX9_factor 144 = .ok (.aload_n 0, 1) := by decide +kernel
theorem dX9_factor_145 : decode cX9_factor 145 = .ok (.new 133, 3) := by decide +kernel
theorem dX9_factor_148 : decode cX9_factor 148 = .ok (.dup, 1) := by decide +kernel
theorem dX9_factor_149 : decode cX9_factor 149 = .ok (.iload_n 2, 1) := by decide +kernel
theorem dX9_factor_150 : decode cX9_factor 150 = .ok (.iconst 1, 1) := by decide +kernel
theorem dX9_factor_151 : decode cX9_factor 151 = .ok (.invokespecial 135, 3) := by decide +kernel
theorem dX9_factor_154 : decode cX9_factor 154 = .ok (.invokevirtual 119, 3) := by decide +kernel
theorem dX9_factor_157 : decode cX9_factor 157 = .ok (.ifCond .eq 7, 3) := by decide +kernel
theorem dX9_factor_160 : decode cX9_factor 160 = .ok (.iconst 1, 1) := by decide +kernel
theorem dX9_factor_161 : decode cX9_factor 161 = .ok (.goto 4, 3) := by decide +kernel
theorem dX9_factor_164 : decode cX9_factor 164 = .ok (.iconst 0, 1) := by decide +kernel
theorem dX9_factor_165 : decode cX9_factor 165 = .ok (.ireturn, 1) := by decide +kernel
set_option maxHeartbeats 4000000 in
theorem grm_factor (l : Launch) (adK adV st : Nat → Nat) (D : va_G) (E : Nat → ClassId) (A : Nat → Prop) (x : Int → Int) (n : Int) (hn : 0 ≤ n ∧ n ≤ 300) (hbx : Bd x 300 (-128) 127) (f : Nat) (ih_sum : ∀ f1, f1 < f → GM l adK adV st D E A x n yX9_sum cX9_sum 4 2 1 3 f1) : GM l adK adV st D E A x n yX9_factor cX9_factor 3 0 5 1 f := by
  intro V ad C p vl mo cap b0 all dn hd hRD hNA hp hf hal
  obtain ⟨g, rfl⟩ : ∃ g, f = g + 1 := ⟨f - 1, by omega⟩
  obtain ⟨Rz, eR⟩ : ∃ R, R = ps x n (g + 1) 5 (dn : Int) p := ⟨_, rfl⟩
  rw [← eR]
  rw [ps_5] at eR
  have hb0 := hRD.2.2.2.2.2.2.2.2.1
  obtain ⟨m0, hm0⟩ : ∃ m, m = all.length - b0 := ⟨_, rfl⟩
  rw [← hm0]
  refine a_start (by decide) rfl (Nat.le_of_ble_eq_true rfl) ?_
  intro pp e R s m args below meth c ls Q hR hQ hCK hml hr hlk hnme hG hS hE hA hl
  have hx := hCK.1
  have hb := hCK.2.1
  have hown := hCK.2.2.1
  have hts := hCK.2.2.2.1
  have hK := hCK.2.2.2.2
  have hl : lv_has ls 3 [(0, .ref (ad 6000)), (1, .int (iI (dn : Int)))] := hl
  have hOT : OT all.length V ad C V ad C := OT.rf
  have htb := tB (x := x) hp
  have v_rd : V 6000 := hRD.2.1.1
  have k_rd : C 6000 = .inr (8, [.ref (ad 6001), .ref (ad 6002), .ref (ad 1), .int (iI n), .ref (ad 6003), .ref (ad 6005), .int (iI (kC x n p)), .int (iI (tF x n p)), .int (iI (tT x n p)), .int (iI vl), .int (iI (-1))]) := hRD.2.1.2
  have e_rd : ad 6000 = ad 6000 := (hOT 6000 (Or.inl (by decide))).1
  have v_tx : V 1 := hRD.1.1
  have k_tx : C 1 = .inl (E 1, 300, ai x) := hRD.1.2
  have hkc := kC_cases x n p
  refine lv_aload_n hx hb dX9_factor_0 rfl (lv_at hl 0 rfl) ?_
  refine a_get hCK hG 6000 e_rd v_rd k_rd (ci := 8) rfl in_X9 6 (by decide) q330 rfl rfl dX9_factor_1 ?_
  refine W.eq (g2 := F0 m 4 ls [.int (iI (kC x n p))]) rfl ?_
  refine r_bipush hx hb dX9_factor_4 (by decide) ?_
  refine r_icmp_ne (tgt := 64) hx hb dX9_factor_6 (by decide) (kC_R _ _ _) (by decide) (fun c1 => ?_) (fun c1 => ?_)
  · refine lv_aload_n hx hb dX9_factor_64 rfl (lv_at hl 0 rfl) ?_
    refine a_get hCK hG 6000 e_rd v_rd k_rd (ci := 8) rfl in_X9 6 (by decide) q330 rfl rfl dX9_factor_65 ?_
    refine W.eq (g2 := F0 m 68 ls [.int (iI (kC x n p))]) rfl ?_
    refine r_iconst hx hb dX9_factor_68 ?_
    refine r_icmp_ne (tgt := 118) hx hb dX9_factor_69 (by decide) (kC_R _ _ _) (by decide) (fun c2 => ?_) (fun c2 => ?_)
    · have hk2 : ¬ tK x n p = 1 := by omega
      have hk3 : ¬ (tK x n p = 3 ∧ tV x n p = 40 ∧ (dn : Int) ≠ 8) := by omega
      rw [if_neg hk2] at eR
      clear hkc
      refine lv_aload_n hx hb dX9_factor_118 rfl (lv_at hl 0 rfl) ?_
      refine lv_aload_n hx hb dX9_factor_119 rfl (lv_at hl 0 rfl) ?_
      refine a_get hCK hG 6000 e_rd v_rd k_rd (ci := 8) rfl in_X9 1 (by decide) q325 rfl rfl dX9_factor_120 ?_
      refine W.eq (g2 := F0 m 123 ls [.ref (ad 6002), .ref (ad 6000)]) rfl ?_
      have hM := met_wof l adK adV st D E A V ad C x n (kC x n p) (tF x n p) (tT x n p) vl (-1) hn hbx v_rd k_rd v_tx k_tx (tBF hp) (kC_R _ _ _) 6002 3 7 hRD.2.2.2.1.1 hRD.2.2.2.1.2 (by decide) (by decide) (by decide)
      rw [e_rd] at hM
      refine a_calli (a_runV (n := 1) (C0 := RX9) (b := (ad 6000)) (rest := []) (as := [.ref (ad 6002)]) hCK hE hA hml (hM) (by have h := g_rec (r := 6000) (ci := 8) hK hG v_rd rfl k_rd; rw [e_rd] at h; exact h) q465 q467 qs4 q86 q468 (by decide +kernel) ⟨rfl, rfl⟩ hR (amr_ok (lv1 (by decide)) (by decide)) ⟨(by rw [hR]; exact (Nat.zero_le _)), (by rw [hR]; exact (Nat.zero_le _))⟩ hG hS rfl hl.1 rfl (Nat.le_of_ble_eq_true rfl) dX9_factor_123) hS (fun z3 ad4 V5 C6 H locs hp7 hG hS => ?_)
      obtain ⟨hwf, rfl, rfl, rfl⟩ := hp7
      have hwz : (z3 = -1 ∧ ¬ (tK x n p = 2 ∧ (2 ≤ tV x n p ∧ tV x n p ≤ 8))) ∨ ((0 ≤ z3 ∧ z3 < 7) ∧ tK x n p = 2 ∧ tV x n p = z3 + 2) := by
        rcases hwf with ⟨h1, h2⟩ | ⟨h1, h2, h3⟩
        · refine Or.inl ⟨h1, fun q => ?_⟩
          have hj := h2 (tV x n p - 2).toNat (by omega)
          have hw := (tok_w (x := x) (n := n) (p := p) (k := (tV x n p).toNat) (by omega)).mpr ⟨q.1, by omega⟩
          rw [show wS (tV x n p).toNat = 3 + (tV x n p - 2).toNat by unfold wS; rw [if_pos (by omega)]; omega] at hw
          exact hj hw
        · have hw := (tok_w (x := x) (n := n) (p := p) (k := z3.toNat + 2) (by omega)).mp ⟨h2, by rw [show wS (z3.toNat + 2) = 3 + z3.toNat by unfold wS; rw [if_pos (by omega)]; omega]; exact h3⟩
          exact Or.inr ⟨h1, hw.1, by omega⟩
      clear hwf
      have hzb : -1 ≤ z3 ∧ z3 < 7 := by omega
      refine lv_istore_n (lv' := [(2, .int (iI z3)), (0, .ref (ad 6000)), (1, .int (iI (dn : Int)))]) hx hb dX9_factor_126 rfl hl (by decide) rfl (fun ls hl => ?_)
      refine lv_aload_n hx hb dX9_factor_127 rfl (lv_at hl 1 rfl) ?_
      refine lv_iload_n hx hb dX9_factor_128 rfl (lv_at hl 0 rfl) ?_
      refine r_iconst hx hb dX9_factor_129 ?_
      refine r_icmp_eq (tgt := 137) hx hb dX9_factor_130 (by decide) (by omega) (by decide) (fun c8 => ?_) (fun c8 => ?_)
      · rw [if_neg (show ¬ (tK x n p = 2 ∧ (2 ≤ tV x n p ∧ tV x n p ≤ 8)) by omega), if_neg hk3] at eR
        clear hwz
        refine r_iconst hx hb dX9_factor_137 ?_
        have hM := met_pass l adK adV st D E A V ad C 0 (by decide) x n (kC x n p) (tF x n p) (tT x n p) vl (-1) hn hbx v_rd k_rd v_tx k_tx (tBT hp) (by decide)
        rw [e_rd] at hM
        refine a_calli (a_runV (n := 1) (C0 := RX9) (b := (ad 6000)) (rest := []) (as := [.int (iI 0)]) hCK hE hA hml (hM) (by have h := g_rec (r := 6000) (ci := 8) hK hG v_rd rfl k_rd; rw [e_rd] at h; exact h) q494 q496 qs6 q86 q497 (by decide +kernel) ⟨rfl, rfl⟩ hR (amr_ok (lv1 (by decide)) (by decide)) ⟨(by rw [hR]; exact (Nat.zero_le _)), (by rw [hR]; exact (Nat.zero_le _))⟩ hG hS rfl hl.1 rfl (Nat.le_of_ble_eq_true rfl) dX9_factor_138) hS (fun z9 ad10 V11 C12 H locs hp13 hG hS => ?_)
        obtain ⟨rfl, rfl, rfl, hcs, o9⟩ := hp13
        have k9 := (hcs.resolve_right (fun h => absurd h.1 (by decide))).2
        rw [if_pos rfl] at k9
        have hRD := hRD.tok k9 o9
        have hOT := hOT.set o9
        have v_rd : V 6000 := hRD.2.1.1
        have k_rd : C12 6000 = .inr (8, [.ref (ad 6001), .ref (ad 6002), .ref (ad 1), .int (iI n), .ref (ad 6003), .ref (ad 6005), .int (iI (kC x n p)), .int (iI (tF x n p)), .int (iI (tT x n p)), .int (iI vl), .int (iI (tF x n p))]) := hRD.2.1.2
        have e_rd : ad 6000 = ad 6000 := (hOT 6000 (Or.inl (by decide))).1
        have v_tx : V 1 := hRD.1.1
        have k_tx : C12 1 = .inl (E 1, 300, ai x) := hRD.1.2
        refine W.eq (g2 := F0 m 141 ls [.int (iI 0)]) rfl ?_
        refine r_if_eq (tgt := 164) hx hb dX9_factor_141 (by decide) (by decide) (fun c15 => ?_) (fun c15 => absurd c15 (by decide))
        have eR : Rz = (false, p, []) := eR
        refine r_iconst hx hb dX9_factor_164 ?_
        exact a_zret hCK hQ hr hlk hG hS (Nat.zero_le _) (Nat.zero_le _) (by decide) dX9_factor_165 (⟨by rw [eR]; rfl, ⟨vl, mo, by rw [eR]; exact app_nil hRD, by rw [eR]; exact hNA⟩, hOT⟩)
      · have hw2 : tK x n p = 2 ∧ tV x n p = z3 + 2 := by omega
        rw [if_pos (show tK x n p = 2 ∧ (2 ≤ tV x n p ∧ tV x n p ≤ 8) by omega), hw2.2, show z3 + 2 - 2 = z3 by omega] at eR
        have htk : tK x n p ≠ 0 := by rw [hw2.1]; decide
        clear hwz
        refine r_iconst hx hb dX9_factor_133 ?_
        refine lv_goto (tgt := 138) hx hb dX9_factor_134 (by decide) ?_
        have hM := met_pass l adK adV st D E A V ad C 1 (by decide) x n (kC x n p) (tF x n p) (tT x n p) vl (-1) hn hbx v_rd k_rd v_tx k_tx (tBT hp) (by decide)
        rw [e_rd] at hM
        refine a_calli (a_runV (n := 1) (C0 := RX9) (b := (ad 6000)) (rest := []) (as := [.int (iI 1)]) hCK hE hA hml (hM) (by have h := g_rec (r := 6000) (ci := 8) hK hG v_rd rfl k_rd; rw [e_rd] at h; exact h) q494 q496 qs6 q86 q497 (by decide +kernel) ⟨rfl, rfl⟩ hR (amr_ok (lv1 (by decide)) (by decide)) ⟨(by rw [hR]; exact (Nat.zero_le _)), (by rw [hR]; exact (Nat.zero_le _))⟩ hG hS rfl hl.1 rfl (Nat.le_of_ble_eq_true rfl) dX9_factor_138) hS (fun z16 ad17 V18 C19 H locs hp20 hG hS => ?_)
        obtain ⟨rfl, rfl, rfl, hcs, o9⟩ := hp20
        obtain ⟨vl21, k9, hNA⟩ := (hcs.resolve_left (fun h => absurd h.1 (by decide))).2
        have hRD := hRD.tok k9 o9
        have hOT := hOT.set o9
        have hal : (((all).length : Nat) : Int) ≤ tT x n p := hal_t hp hal
        have hp : 0 ≤ tT x n p ∧ tT x n p ≤ n := tBT hp
        have htb := tB (x := x) hp
        have v_rd : V 6000 := hRD.2.1.1
        have k_rd : C19 6000 = .inr (8, [.ref (ad 6001), .ref (ad 6002), .ref (ad 1), .int (iI n), .ref (ad 6003), .ref (ad 6005), .int (iI (kC x n (tT x n p))), .int (iI (tF x n (tT x n p))), .int (iI (tT x n (tT x n p))), .int (iI vl21), .int (iI (-1))]) := hRD.2.1.2
        have e_rd : ad 6000 = ad 6000 := (hOT 6000 (Or.inl (by decide))).1
        have v_tx : V 1 := hRD.1.1
        have k_tx : C19 1 = .inl (E 1, 300, ai x) := hRD.1.2
        refine W.eq (g2 := F0 m 141 ls [.int (iI 1)]) rfl ?_
        refine r_if_eq (tgt := 164) hx hb dX9_factor_141 (by decide) (by decide) (fun c22 => absurd c22 (by decide)) (fun c22 => ?_)
        have eL : Rz.2.2.length = 1 := by rw [eR]; rfl
        have hst := csN_1 0 cap m0
        rw [eL] at hQ hR
        have hq2 : csN 1 cap m0 ≤ csN 1 cap m0 ∧ slN 1 cap m0 ≤ slN 1 cap m0 := ⟨Nat.le_refl _, Nat.le_refl _⟩
        rw [show (1 : Nat) = 0 + 1 from rfl, hst.1, hst.2.1] at hq2
        have hll : all.length = b0 + (m0 + 0) := by omega
        have hgr9 := hgr_l (b0 := b0) (c := cap) hal hp.2 hn.2
        have hpm9 := hpm_l (c := cap) hll
        have hr1 : 0 + 1 ≤ csN 1 cap m0 := by show 0 + 1 ≤ (if m0 = cap then 2 else 1) + 0; split <;> decide
        have hr2 : 0 + 2 ≤ slN 1 cap m0 := by show 0 + 2 ≤ 2 + (if m0 = cap then _ else 0) + 0; omega
        have hr3 : 0 + 1 + 0 + (if m0 + 0 = cap then 1 else 0) ≤ csN 1 cap m0 := by show 0 + 1 + 0 + (if m0 = cap then 1 else 0) ≤ (if m0 = cap then 2 else 1) + 0; split <;> decide
        have hr4 : 0 + 2 + 0 + (if m0 + 0 = cap then cap + cap / 2 else 0) ≤ slN 1 cap m0 := by show 0 + 2 + 0 + (if m0 = cap then cap + cap / 2 else 0) ≤ 2 + (if m0 = cap then cap + cap / 2 else 0) + 0; omega
        have hOa : ∀ q, (q ≠ 7000 + (all).length) → ad q = ad q := fun _ _ => rfl
        have hOc : ∀ q, (q ≠ 7000 + (all).length) → C19 q = C19 q := fun _ _ => rfl
        have e_rd0 := e_rd
        have hnl : 6000 ≠ 7000 + (all).length := by omega
        refine lv_aload_n hx hb dX9_factor_144 rfl (lv_at hl 1 rfl) ?_
        refine a_new (ci := 9) (fs := [.int (iI 0), .int (iI 0)]) tyX10 hCK hG hS hA (7000 + (all).length) in_X10 tyX10_ok q598 q599 q91 rfl (by decide) (by rw [hR]; exact hr1) (by rw [hR]; exact hr2) dX9_factor_145 (fun x23 ad24 C25 H e_it k_it oo28 hG hS oh29 => ?_)
        obtain ⟨V30, hV30⟩ : ∃ X : Nat → Prop, X = fun q => V q ∨ q = 7000 + (all).length := ⟨_, rfl⟩
        rw [← hV30] at hG
        have v_rd : V30 6000 := by rw [hV30]; exact Or.inl v_rd
        have e_rd : ad24 6000 = (ad 6000) := (oo28 6000 (by first | exact hq | exact hnl)).1.trans e_rd
        have k_rd : C25 6000 = .inr (8, [.ref (ad 6001), .ref (ad 6002), .ref (ad 1), .int (iI n), .ref (ad 6003), .ref (ad 6005), .int (iI (kC x n (tT x n p))), .int (iI (tF x n (tT x n p))), .int (iI (tT x n (tT x n p))), .int (iI vl21), .int (iI (-1))]) := (oo28 6000 (by first | exact hq | exact hnl)).2.trans k_rd
        have v_it : V30 (7000 + (all).length) := by rw [hV30]; exact Or.inr rfl
        have hOa : ∀ q, (q ≠ 7000 + (all).length) → ad24 q = ad q := fun q hq => (oo28 q (by first | exact hq | exact hnl)).1.trans (hOa q hq)
        have hOc : ∀ q, (q ≠ 7000 + (all).length) → C25 q = C19 q := fun q hq => (oo28 q (by first | exact hq | exact hnl)).2.trans (hOc q hq)
        refine lv_dup hx hb dX9_factor_148 rfl ?_
        refine lv_iload_n hx hb dX9_factor_149 rfl (lv_at hl 0 rfl) ?_
        refine r_iconst hx hb dX9_factor_150 ?_
        refine a_callv (a_runI (n := 2) (b := x23) (rest := [.ref x23, .ref (ad 6000)]) (as := [.int (iI z3), .int (iI 1)]) hCK hE hA hml (met_xi10 l adK adV st D E A V30 ad24 C25 (7000 + (all).length) x23 z3 1 v_it e_it k_it (by decide)) q600 q601 q91 q602 rfl (by decide +kernel) ⟨rfl, rfl⟩ hR (amr_ok (lv1 (by decide)) (by decide)) ⟨(by rw [hR]; exact hr1), (by rw [hR]; exact hr2)⟩ hG hS rfl hl.1 rfl (Nat.le_of_ble_eq_true rfl) dX9_factor_151) hS (fun ad32 V33 C34 H locs hp35 hG hS => ?_)
        obtain ⟨rfl, rfl, kk37, oo36⟩ := hp35
        have k_it : C34 (7000 + (all).length) = .inr (9, [.int (iI z3), .int (iI 1)]) := kk37
        have k_rd : C34 6000 = .inr (8, [.ref (ad 6001), .ref (ad 6002), .ref (ad 1), .int (iI n), .ref (ad 6003), .ref (ad 6005), .int (iI (kC x n (tT x n p))), .int (iI (tF x n (tT x n p))), .int (iI (tT x n (tT x n p))), .int (iI vl21), .int (iI (-1))]) := (oo36 6000 (by first | exact hq | exact hnl)).trans k_rd
        have hOa : ∀ q, (q ≠ 7000 + (all).length) → ad24 q = ad q := hOa
        have hOc : ∀ q, (q ≠ 7000 + (all).length) → C34 q = C19 q := fun q hq => (oo36 q (by first | exact hq | exact hnl)).trans (hOc q hq)
        have hmk : C34 (7000 + (all).length) = mkE 1 z3 := k_it
        have hM := met_puts l adK adV st D E A V30 ad24 C34 V ad C19 x n (kC x n (tT x n p)) (tF x n (tT x n p)) (tT x n (tT x n p)) vl21 (-1) mo cap b0 (all) 1 z3 x23 hRD hV30 (fun q hq => ⟨hOa q hq, hOc q hq⟩) hmk e_it hgr9 (if m0 + 0 = cap then 1 else 0) (if m0 + 0 = cap then cap + cap / 2 else 0) hpm9
        rw [e_rd0] at hM
        refine a_calli (a_runV (n := 1) (C0 := RX9) (b := (ad 6000)) (rest := []) (as := [.ref x23]) hCK hE hA hml (hM) (by have h := g_rec (r := 6000) (ci := 8) hK hG v_rd rfl k_rd; rw [e_rd] at h; exact h) q528 q530 qs10 q86 q531 (by decide +kernel) ⟨rfl, rfl⟩ hR (amr_ok (lv1 (by decide)) (by decide)) ⟨(by rw [hR]; exact hr3), (by rw [hR]; exact hr4)⟩ hG hS rfl hl.1 rfl (Nat.le_of_ble_eq_true rfl) dX9_factor_154) hS (fun z38 ad39 V40 C41 H locs hp42 hG hS => ?_)
        obtain ⟨rfl, mo43, cap44, hcp9, hRD, hot9⟩ := hp42
        have hOT := hOT.tr hot9 (by first | exact Nat.le_refl _ | (rw [List.length_append]; exact Nat.le_add_right _ _) | (rw [List.length_append, List.length_append]; exact Nat.le_trans (Nat.le_add_right _ _) (Nat.le_add_right _ _)))
        refine W.eq (g2 := F0 m 157 ls [.int (iI 1)]) rfl ?_
        have v_rd : V40 6000 := hRD.2.1.1
        have k_rd : C41 6000 = .inr (8, [.ref (ad39 6001), .ref (ad39 6002), .ref (ad39 1), .int (iI n), .ref (ad39 6003), .ref (ad39 6005), .int (iI (kC x n (tT x n p))), .int (iI (tF x n (tT x n p))), .int (iI (tT x n (tT x n p))), .int (iI vl21), .int (iI (-1))]) := hRD.2.1.2
        have e_rd : ad39 6000 = ad 6000 := (hOT 6000 (Or.inl (by decide))).1
        have v_tx : V40 1 := hRD.1.1
        have k_tx : C41 1 = .inl (E 1, 300, ai x) := hRD.1.2
        have hcp : cap44 = cpN 1 cap m0 := (cp_step hcp9 hll).trans (show _ = if m0 = cap then cap + cap / 2 else cap from by rw [Nat.add_zero])
        rw [hcp] at hRD
        clear hcp9
        refine r_if_eq (tgt := 164) hx hb dX9_factor_157 (by decide) (by decide) (fun c45 => absurd c45 (by decide)) (fun c45 => ?_)
        refine r_iconst hx hb dX9_factor_160 ?_
        refine lv_goto (tgt := 165) hx hb dX9_factor_161 (by decide) ?_
        exact a_zret hCK hQ hr hlk hG hS hr3 hr4 (by decide) dX9_factor_165 (⟨by rw [eR]; rfl, ⟨vl21, mo43, by rw [eR, ← hm0]; exact hRD, by rw [eR]; exact hNA⟩, hOT⟩)
    · have hk1 : tK x n p = 1 := by omega
      rw [if_pos hk1] at eR
      have htn := tok_n hk1
      have evl := hNA hk1
      rw [← evl] at htn
      have htk : tK x n p ≠ 0 := by rw [hk1]; decide
      clear hkc
      refine lv_aload_n hx hb dX9_factor_72 rfl (lv_at hl 0 rfl) ?_
      refine a_get hCK hG 6000 e_rd v_rd k_rd (ci := 8) rfl in_X9 9 (by decide) q333 rfl rfl dX9_factor_73 ?_
      refine W.eq (g2 := F0 m 76 ls [.int (iI vl)]) rfl ?_
      refine lv_istore_n (lv' := [(2, .int (iI vl)), (0, .ref (ad 6000)), (1, .int (iI (dn : Int)))]) hx hb dX9_factor_76 rfl hl (by decide) rfl (fun ls hl => ?_)
      refine lv_aload_n hx hb dX9_factor_77 rfl (lv_at hl 1 rfl) ?_
      refine lv_iload_n hx hb dX9_factor_78 rfl (lv_at hl 0 rfl) ?_
      refine r_sipush hx hb dX9_factor_79 (by decide) ?_
      refine r_icmp_gt (tgt := 89) hx hb dX9_factor_82 (by decide) (by omega) (by decide) (fun c46 => ?_) (fun c46 => ?_)
      · rw [if_pos (show 9999 < tV x n p by omega)] at eR
        refine r_iconst hx hb dX9_factor_89 ?_
        have hM := met_pass l adK adV st D E A V ad C 0 (by decide) x n (kC x n p) (tF x n p) (tT x n p) vl (-1) hn hbx v_rd k_rd v_tx k_tx (tBT hp) (by decide)
        rw [e_rd] at hM
        refine a_calli (a_runV (n := 1) (C0 := RX9) (b := (ad 6000)) (rest := []) (as := [.int (iI 0)]) hCK hE hA hml (hM) (by have h := g_rec (r := 6000) (ci := 8) hK hG v_rd rfl k_rd; rw [e_rd] at h; exact h) q494 q496 qs6 q86 q497 (by decide +kernel) ⟨rfl, rfl⟩ hR (amr_ok (lv1 (by decide)) (by decide)) ⟨(by rw [hR]; exact (Nat.zero_le _)), (by rw [hR]; exact (Nat.zero_le _))⟩ hG hS rfl hl.1 rfl (Nat.le_of_ble_eq_true rfl) dX9_factor_90) hS (fun z47 ad48 V49 C50 H locs hp51 hG hS => ?_)
        obtain ⟨rfl, rfl, rfl, hcs, o9⟩ := hp51
        have k9 := (hcs.resolve_right (fun h => absurd h.1 (by decide))).2
        rw [if_pos rfl] at k9
        have hRD := hRD.tok k9 o9
        have hOT := hOT.set o9
        have v_rd : V 6000 := hRD.2.1.1
        have k_rd : C50 6000 = .inr (8, [.ref (ad 6001), .ref (ad 6002), .ref (ad 1), .int (iI n), .ref (ad 6003), .ref (ad 6005), .int (iI (kC x n p)), .int (iI (tF x n p)), .int (iI (tT x n p)), .int (iI vl), .int (iI (tF x n p))]) := hRD.2.1.2
        have e_rd : ad 6000 = ad 6000 := (hOT 6000 (Or.inl (by decide))).1
        have v_tx : V 1 := hRD.1.1
        have k_tx : C50 1 = .inl (E 1, 300, ai x) := hRD.1.2
        refine W.eq (g2 := F0 m 93 ls [.int (iI 0)]) rfl ?_
        refine r_if_eq (tgt := 116) hx hb dX9_factor_93 (by decide) (by decide) (fun c53 => ?_) (fun c53 => absurd c53 (by decide))
        have eR : Rz = (false, p, []) := eR
        refine r_iconst hx hb dX9_factor_116 ?_
        exact a_zret hCK hQ hr hlk hG hS (Nat.zero_le _) (Nat.zero_le _) (by decide) dX9_factor_117 (⟨by rw [eR]; rfl, ⟨vl, mo, by rw [eR]; exact app_nil hRD, by rw [eR]; exact hNA⟩, hOT⟩)
      · rw [if_neg (show ¬ 9999 < tV x n p by omega)] at eR
        have ev : tV x n p = vl := by omega
        rw [ev] at eR
        clear htn
        refine r_iconst hx hb dX9_factor_85 ?_
        refine lv_goto (tgt := 90) hx hb dX9_factor_86 (by decide) ?_
        have hM := met_pass l adK adV st D E A V ad C 1 (by decide) x n (kC x n p) (tF x n p) (tT x n p) vl (-1) hn hbx v_rd k_rd v_tx k_tx (tBT hp) (by decide)
        rw [e_rd] at hM
        refine a_calli (a_runV (n := 1) (C0 := RX9) (b := (ad 6000)) (rest := []) (as := [.int (iI 1)]) hCK hE hA hml (hM) (by have h := g_rec (r := 6000) (ci := 8) hK hG v_rd rfl k_rd; rw [e_rd] at h; exact h) q494 q496 qs6 q86 q497 (by decide +kernel) ⟨rfl, rfl⟩ hR (amr_ok (lv1 (by decide)) (by decide)) ⟨(by rw [hR]; exact (Nat.zero_le _)), (by rw [hR]; exact (Nat.zero_le _))⟩ hG hS rfl hl.1 rfl (Nat.le_of_ble_eq_true rfl) dX9_factor_90) hS (fun z54 ad55 V56 C57 H locs hp58 hG hS => ?_)
        obtain ⟨rfl, rfl, rfl, hcs, o9⟩ := hp58
        obtain ⟨vl59, k9, hNA⟩ := (hcs.resolve_left (fun h => absurd h.1 (by decide))).2
        have hRD := hRD.tok k9 o9
        have hOT := hOT.set o9
        have hal : (((all).length : Nat) : Int) ≤ tT x n p := hal_t hp hal
        have hp : 0 ≤ tT x n p ∧ tT x n p ≤ n := tBT hp
        have htb := tB (x := x) hp
        have v_rd : V 6000 := hRD.2.1.1
        have k_rd : C57 6000 = .inr (8, [.ref (ad 6001), .ref (ad 6002), .ref (ad 1), .int (iI n), .ref (ad 6003), .ref (ad 6005), .int (iI (kC x n (tT x n p))), .int (iI (tF x n (tT x n p))), .int (iI (tT x n (tT x n p))), .int (iI vl59), .int (iI (-1))]) := hRD.2.1.2
        have e_rd : ad 6000 = ad 6000 := (hOT 6000 (Or.inl (by decide))).1
        have v_tx : V 1 := hRD.1.1
        have k_tx : C57 1 = .inl (E 1, 300, ai x) := hRD.1.2
        refine W.eq (g2 := F0 m 93 ls [.int (iI 1)]) rfl ?_
        refine r_if_eq (tgt := 116) hx hb dX9_factor_93 (by decide) (by decide) (fun c60 => absurd c60 (by decide)) (fun c60 => ?_)
        have eL : Rz.2.2.length = 1 := by rw [eR]; rfl
        have hst := csN_1 0 cap m0
        rw [eL] at hQ hR
        have hq2 : csN 1 cap m0 ≤ csN 1 cap m0 ∧ slN 1 cap m0 ≤ slN 1 cap m0 := ⟨Nat.le_refl _, Nat.le_refl _⟩
        rw [show (1 : Nat) = 0 + 1 from rfl, hst.1, hst.2.1] at hq2
        have hll : all.length = b0 + (m0 + 0) := by omega
        have hgr9 := hgr_l (b0 := b0) (c := cap) hal hp.2 hn.2
        have hpm9 := hpm_l (c := cap) hll
        have hr1 : 0 + 1 ≤ csN 1 cap m0 := by show 0 + 1 ≤ (if m0 = cap then 2 else 1) + 0; split <;> decide
        have hr2 : 0 + 2 ≤ slN 1 cap m0 := by show 0 + 2 ≤ 2 + (if m0 = cap then _ else 0) + 0; omega
        have hr3 : 0 + 1 + 0 + (if m0 + 0 = cap then 1 else 0) ≤ csN 1 cap m0 := by show 0 + 1 + 0 + (if m0 = cap then 1 else 0) ≤ (if m0 = cap then 2 else 1) + 0; split <;> decide
        have hr4 : 0 + 2 + 0 + (if m0 + 0 = cap then cap + cap / 2 else 0) ≤ slN 1 cap m0 := by show 0 + 2 + 0 + (if m0 = cap then cap + cap / 2 else 0) ≤ 2 + (if m0 = cap then cap + cap / 2 else 0) + 0; omega
        have hOa : ∀ q, (q ≠ 7000 + (all).length) → ad q = ad q := fun _ _ => rfl
        have hOc : ∀ q, (q ≠ 7000 + (all).length) → C57 q = C57 q := fun _ _ => rfl
        have e_rd0 := e_rd
        have hnl : 6000 ≠ 7000 + (all).length := by omega
        refine lv_aload_n hx hb dX9_factor_96 rfl (lv_at hl 1 rfl) ?_
        refine a_new (ci := 9) (fs := [.int (iI 0), .int (iI 0)]) tyX10 hCK hG hS hA (7000 + (all).length) in_X10 tyX10_ok q598 q599 q91 rfl (by decide) (by rw [hR]; exact hr1) (by rw [hR]; exact hr2) dX9_factor_97 (fun x61 ad62 C63 H e_it k_it oo66 hG hS oh67 => ?_)
        obtain ⟨V68, hV68⟩ : ∃ X : Nat → Prop, X = fun q => V q ∨ q = 7000 + (all).length := ⟨_, rfl⟩
        rw [← hV68] at hG
        have v_rd : V68 6000 := by rw [hV68]; exact Or.inl v_rd
        have e_rd : ad62 6000 = (ad 6000) := (oo66 6000 (by first | exact hq | exact hnl)).1.trans e_rd
        have k_rd : C63 6000 = .inr (8, [.ref (ad 6001), .ref (ad 6002), .ref (ad 1), .int (iI n), .ref (ad 6003), .ref (ad 6005), .int (iI (kC x n (tT x n p))), .int (iI (tF x n (tT x n p))), .int (iI (tT x n (tT x n p))), .int (iI vl59), .int (iI (-1))]) := (oo66 6000 (by first | exact hq | exact hnl)).2.trans k_rd
        have v_it : V68 (7000 + (all).length) := by rw [hV68]; exact Or.inr rfl
        have hOa : ∀ q, (q ≠ 7000 + (all).length) → ad62 q = ad q := fun q hq => (oo66 q (by first | exact hq | exact hnl)).1.trans (hOa q hq)
        have hOc : ∀ q, (q ≠ 7000 + (all).length) → C63 q = C57 q := fun q hq => (oo66 q (by first | exact hq | exact hnl)).2.trans (hOc q hq)
        refine lv_dup hx hb dX9_factor_100 rfl ?_
        refine lv_iload_n hx hb dX9_factor_101 rfl (lv_at hl 0 rfl) ?_
        refine r_iconst hx hb dX9_factor_102 ?_
        refine a_callv (a_runI (n := 2) (b := x61) (rest := [.ref x61, .ref (ad 6000)]) (as := [.int (iI vl), .int (iI 0)]) hCK hE hA hml (met_xi10 l adK adV st D E A V68 ad62 C63 (7000 + (all).length) x61 vl 0 v_it e_it k_it (by decide)) q600 q601 q91 q602 rfl (by decide +kernel) ⟨rfl, rfl⟩ hR (amr_ok (lv1 (by decide)) (by decide)) ⟨(by rw [hR]; exact hr1), (by rw [hR]; exact hr2)⟩ hG hS rfl hl.1 rfl (Nat.le_of_ble_eq_true rfl) dX9_factor_103) hS (fun ad70 V71 C72 H locs hp73 hG hS => ?_)
        obtain ⟨rfl, rfl, kk75, oo74⟩ := hp73
        have k_it : C72 (7000 + (all).length) = .inr (9, [.int (iI vl), .int (iI 0)]) := kk75
        have k_rd : C72 6000 = .inr (8, [.ref (ad 6001), .ref (ad 6002), .ref (ad 1), .int (iI n), .ref (ad 6003), .ref (ad 6005), .int (iI (kC x n (tT x n p))), .int (iI (tF x n (tT x n p))), .int (iI (tT x n (tT x n p))), .int (iI vl59), .int (iI (-1))]) := (oo74 6000 (by first | exact hq | exact hnl)).trans k_rd
        have hOa : ∀ q, (q ≠ 7000 + (all).length) → ad62 q = ad q := hOa
        have hOc : ∀ q, (q ≠ 7000 + (all).length) → C72 q = C57 q := fun q hq => (oo74 q (by first | exact hq | exact hnl)).trans (hOc q hq)
        have hmk : C72 (7000 + (all).length) = mkE 0 vl := k_it
        have hM := met_puts l adK adV st D E A V68 ad62 C72 V ad C57 x n (kC x n (tT x n p)) (tF x n (tT x n p)) (tT x n (tT x n p)) vl59 (-1) mo cap b0 (all) 0 vl x61 hRD hV68 (fun q hq => ⟨hOa q hq, hOc q hq⟩) hmk e_it hgr9 (if m0 + 0 = cap then 1 else 0) (if m0 + 0 = cap then cap + cap / 2 else 0) hpm9
        rw [e_rd0] at hM
        refine a_calli (a_runV (n := 1) (C0 := RX9) (b := (ad 6000)) (rest := []) (as := [.ref x61]) hCK hE hA hml (hM) (by have h := g_rec (r := 6000) (ci := 8) hK hG v_rd rfl k_rd; rw [e_rd] at h; exact h) q528 q530 qs10 q86 q531 (by decide +kernel) ⟨rfl, rfl⟩ hR (amr_ok (lv1 (by decide)) (by decide)) ⟨(by rw [hR]; exact hr3), (by rw [hR]; exact hr4)⟩ hG hS rfl hl.1 rfl (Nat.le_of_ble_eq_true rfl) dX9_factor_106) hS (fun z76 ad77 V78 C79 H locs hp80 hG hS => ?_)
        obtain ⟨rfl, mo81, cap82, hcp9, hRD, hot9⟩ := hp80
        have hOT := hOT.tr hot9 (by first | exact Nat.le_refl _ | (rw [List.length_append]; exact Nat.le_add_right _ _) | (rw [List.length_append, List.length_append]; exact Nat.le_trans (Nat.le_add_right _ _) (Nat.le_add_right _ _)))
        refine W.eq (g2 := F0 m 109 ls [.int (iI 1)]) rfl ?_
        have v_rd : V78 6000 := hRD.2.1.1
        have k_rd : C79 6000 = .inr (8, [.ref (ad77 6001), .ref (ad77 6002), .ref (ad77 1), .int (iI n), .ref (ad77 6003), .ref (ad77 6005), .int (iI (kC x n (tT x n p))), .int (iI (tF x n (tT x n p))), .int (iI (tT x n (tT x n p))), .int (iI vl59), .int (iI (-1))]) := hRD.2.1.2
        have e_rd : ad77 6000 = ad 6000 := (hOT 6000 (Or.inl (by decide))).1
        have v_tx : V78 1 := hRD.1.1
        have k_tx : C79 1 = .inl (E 1, 300, ai x) := hRD.1.2
        have hcp : cap82 = cpN 1 cap m0 := (cp_step hcp9 hll).trans (show _ = if m0 = cap then cap + cap / 2 else cap from by rw [Nat.add_zero])
        rw [hcp] at hRD
        clear hcp9
        refine r_if_eq (tgt := 116) hx hb dX9_factor_109 (by decide) (by decide) (fun c83 => absurd c83 (by decide)) (fun c83 => ?_)
        refine r_iconst hx hb dX9_factor_112 ?_
        refine lv_goto (tgt := 117) hx hb dX9_factor_113 (by decide) ?_
        exact a_zret hCK hQ hr hlk hG hS hr3 hr4 (by decide) dX9_factor_117 (⟨by rw [eR]; rfl, ⟨vl59, mo81, by rw [eR, ← hm0]; exact hRD, by rw [eR]; exact hNA⟩, hOT⟩)
  · have hk40 : tK x n p = 3 ∧ tV x n p = 40 := by omega
    refine lv_aload_n hx hb dX9_factor_9 rfl (lv_at hl 0 rfl) ?_
    refine lv_iload_n hx hb dX9_factor_10 rfl (lv_at hl 1 rfl) ?_
    refine r_bipush hx hb dX9_factor_11 (by decide) ?_
    refine r_icmp_ge (tgt := 20) hx hb dX9_factor_13 (by decide) (by omega) (by decide) (fun c84 => ?_) (fun c84 => ?_)
    · have h8 : ¬ (tK x n p = 3 ∧ tV x n p = 40 ∧ (dn : Int) ≠ 8) := by omega
      rw [if_neg (by omega), if_neg (by omega), if_neg h8] at eR
      clear hkc
      refine r_iconst hx hb dX9_factor_20 ?_
      have hM := met_pass l adK adV st D E A V ad C 0 (by decide) x n (kC x n p) (tF x n p) (tT x n p) vl (-1) hn hbx v_rd k_rd v_tx k_tx (tBT hp) (by decide)
      rw [e_rd] at hM
      refine a_calli (a_runV (n := 1) (C0 := RX9) (b := (ad 6000)) (rest := []) (as := [.int (iI 0)]) hCK hE hA hml (hM) (by have h := g_rec (r := 6000) (ci := 8) hK hG v_rd rfl k_rd; rw [e_rd] at h; exact h) q494 q496 qs6 q86 q497 (by decide +kernel) ⟨rfl, rfl⟩ hR (amr_ok (lv1 (by decide)) (by decide)) ⟨(by rw [hR]; exact (Nat.zero_le _)), (by rw [hR]; exact (Nat.zero_le _))⟩ hG hS rfl hl.1 rfl (Nat.le_of_ble_eq_true rfl) dX9_factor_21) hS (fun z85 ad86 V87 C88 H locs hp89 hG hS => ?_)
      obtain ⟨rfl, rfl, rfl, hcs, o9⟩ := hp89
      have k9 := (hcs.resolve_right (fun h => absurd h.1 (by decide))).2
      rw [if_pos rfl] at k9
      have hRD := hRD.tok k9 o9
      have hOT := hOT.set o9
      have v_rd : V 6000 := hRD.2.1.1
      have k_rd : C88 6000 = .inr (8, [.ref (ad 6001), .ref (ad 6002), .ref (ad 1), .int (iI n), .ref (ad 6003), .ref (ad 6005), .int (iI (kC x n p)), .int (iI (tF x n p)), .int (iI (tT x n p)), .int (iI vl), .int (iI (tF x n p))]) := hRD.2.1.2
      have e_rd : ad 6000 = ad 6000 := (hOT 6000 (Or.inl (by decide))).1
      have v_tx : V 1 := hRD.1.1
      have k_tx : C88 1 = .inl (E 1, 300, ai x) := hRD.1.2
      refine W.eq (g2 := F0 m 24 ls [.int (iI 0)]) rfl ?_
      refine r_if_eq (tgt := 62) hx hb dX9_factor_24 (by decide) (by decide) (fun c91 => ?_) (fun c91 => absurd c91 (by decide))
      have eR : Rz = (false, p, []) := eR
      refine r_iconst hx hb dX9_factor_62 ?_
      exact a_zret hCK hQ hr hlk hG hS (Nat.zero_le _) (Nat.zero_le _) (by decide) dX9_factor_63 (⟨by rw [eR]; rfl, ⟨vl, mo, by rw [eR]; exact app_nil hRD, by rw [eR]; exact hNA⟩, hOT⟩)
    · have hd8 : dn < 8 := by omega
      have h8 : tK x n p = 3 ∧ tV x n p = 40 ∧ (dn : Int) ≠ 8 := by omega
      rw [if_neg (by omega), if_neg (by omega), if_pos h8] at eR
      have htk : tK x n p ≠ 0 := by omega
      have hl7 := htb.2.2 htk
      clear hkc
      refine r_iconst hx hb dX9_factor_16 ?_
      refine lv_goto (tgt := 21) hx hb dX9_factor_17 (by decide) ?_
      have hM := met_pass l adK adV st D E A V ad C 1 (by decide) x n (kC x n p) (tF x n p) (tT x n p) vl (-1) hn hbx v_rd k_rd v_tx k_tx (tBT hp) (by decide)
      rw [e_rd] at hM
      refine a_calli (a_runV (n := 1) (C0 := RX9) (b := (ad 6000)) (rest := []) (as := [.int (iI 1)]) hCK hE hA hml (hM) (by have h := g_rec (r := 6000) (ci := 8) hK hG v_rd rfl k_rd; rw [e_rd] at h; exact h) q494 q496 qs6 q86 q497 (by decide +kernel) ⟨rfl, rfl⟩ hR (amr_ok (lv1 (by decide)) (by decide)) ⟨(by rw [hR]; exact (Nat.zero_le _)), (by rw [hR]; exact (Nat.zero_le _))⟩ hG hS rfl hl.1 rfl (Nat.le_of_ble_eq_true rfl) dX9_factor_21) hS (fun z92 ad93 V94 C95 H locs hp96 hG hS => ?_)
      obtain ⟨rfl, rfl, rfl, hcs, o9⟩ := hp96
      obtain ⟨vl97, k9, hNA⟩ := (hcs.resolve_left (fun h => absurd h.1 (by decide))).2
      have hRD := hRD.tok k9 o9
      have hOT := hOT.set o9
      have hal : (((all).length : Nat) : Int) ≤ tT x n p := hal_t hp hal
      have hp : 0 ≤ tT x n p ∧ tT x n p ≤ n := tBT hp
      have htb := tB (x := x) hp
      have v_rd : V 6000 := hRD.2.1.1
      have k_rd : C95 6000 = .inr (8, [.ref (ad 6001), .ref (ad 6002), .ref (ad 1), .int (iI n), .ref (ad 6003), .ref (ad 6005), .int (iI (kC x n (tT x n p))), .int (iI (tF x n (tT x n p))), .int (iI (tT x n (tT x n p))), .int (iI vl97), .int (iI (-1))]) := hRD.2.1.2
      have e_rd : ad 6000 = ad 6000 := (hOT 6000 (Or.inl (by decide))).1
      have v_tx : V 1 := hRD.1.1
      have k_tx : C95 1 = .inl (E 1, 300, ai x) := hRD.1.2
      refine W.eq (g2 := F0 m 24 ls [.int (iI 1)]) rfl ?_
      refine r_if_eq (tgt := 62) hx hb dX9_factor_24 (by decide) (by decide) (fun c98 => absurd c98 (by decide)) (fun c98 => ?_)
      refine lv_aload_n hx hb dX9_factor_27 rfl (lv_at hl 0 rfl) ?_
      refine lv_iload_n hx hb dX9_factor_28 rfl (lv_at hl 1 rfl) ?_
      refine r_iconst hx hb dX9_factor_29 ?_
      refine r_iadd hx hb dX9_factor_30 ?_
      obtain ⟨a1, e_a1⟩ : ∃ a, a = ps x n (g) 1 ((dn + 1 : Nat) : Int) (tT x n p) := ⟨_, rfl⟩
      have l_a1 := ps_len x n (g) 1 ((dn + 1 : Nat) : Int) (tT x n p) hp.2
      rw [← e_a1] at l_a1
      have hM := ih_sum (g) (by omega) V ad C95 (tT x n p) vl97 mo cap b0 (all) (dn + 1) (Nat.succ_le_of_lt hd8) hRD hNA hp (by omega) hal
      rw [← e_a1, e_rd] at hM
      have h_mt : (all).length - b0 = m0 := by first | exact hm0.symm | (rw [List.length_append]; exact ll2s hb0 hm0)
      rw [h_mt] at hM
      have ecd : ((dn + 1 : Nat) : Int) = (dn : Int) + 1 := by omega
      rw [← ecd, ← e_a1] at eR
      have hRl1 : a1.2.2.length ≤ Rz.2.2.length := by rw [eR]; exact sq_len _ _
      have hq1 := csN_le cap m0 hRl1
      rw [ecd] at hM
      refine a_calli (a_runV (n := 1) (C0 := RX9) (b := (ad 6000)) (rest := []) (as := [.int (iI ((dn : Int) + 1))]) hCK hE hA hml (hM) (by have h := g_rec (r := 6000) (ci := 8) hK hG v_rd rfl k_rd; rw [e_rd] at h; exact h) q586 q588 qs14 q86 q589 (by decide +kernel) ⟨rfl, rfl⟩ hR (amr_ok (lv3 (by decide) hd8) (by decide)) ⟨(by rw [hR]; exact (show 0 + _ ≤ _ from by rw [Nat.zero_add]; exact hq1.1)), (by rw [hR]; exact (show 0 + _ ≤ _ from by rw [Nat.zero_add]; exact hq1.2))⟩ hG hS rfl hl.1 rfl (Nat.le_of_ble_eq_true rfl) dX9_factor_31) hS (fun z99 ad100 V101 C102 H locs hp103 hG hS => ?_)
      obtain ⟨rfl, ⟨vl104, mo105, hRD, hNA⟩, hot9⟩ := hp103
      have hOT := hOT.tr hot9 (by first | exact Nat.le_refl _ | (rw [List.length_append]; exact Nat.le_add_right _ _) | (rw [List.length_append, List.length_append]; exact Nat.le_trans (Nat.le_add_right _ _) (Nat.le_add_right _ _)))
      rw [h_mt] at hRD
      have hp : 0 ≤ a1.2.1 ∧ a1.2.1 ≤ n := ⟨Int.le_trans hp.1 l_a1.1.1, l_a1.1.2⟩
      have htb := tB (x := x) hp
      have hal : (((all ++ a1.2.2).length : Nat) : Int) ≤ a1.2.1 := by rw [List.length_append]; exact hal_2 hal l_a1.2
      refine W.eq (g2 := F0 m 34 ls [.int (iI (if a1.1 = true then 1 else 0))]) rfl ?_
      refine W.widen (k := csN (a1.2.2.length) cap m0) (n := slN (a1.2.2.length) cap m0) (by rw [Nat.zero_add]; exact Nat.le_refl _) (by rw [Nat.zero_add]; exact Nat.le_refl _) ?_
      refine r_ifeqB (tgt := 62) hx hb dX9_factor_34 (by decide) (fun ca => ?_) (fun ca => ?_)
      · rw [sq_n ca] at eR
        rw [if_neg ca] at hRD
        refine r_iconst hx hb dX9_factor_62 ?_
        exact a_zret hCK hQ hr hlk hG hS (by rw [eR]; exact Nat.le_refl _) (by rw [eR]; exact Nat.le_refl _) (by decide) dX9_factor_63 (⟨by rw [eR, if_neg ca], ⟨vl104, mo105, by rw [eR, ← hm0, if_neg ca]; exact hRD, by rw [eR]; exact hNA⟩, hOT⟩)
      · rw [sq_y ca] at eR
        rw [if_pos ca] at hRD
        have hkc := kC_cases x n a1.2.1
        have eL : Rz.2.2.length = a1.2.2.length := by rw [eR]; show (a1.2.2 ++ (if _ then _ else _ : PR).2.2).length = _; split <;> (show (a1.2.2 ++ []).length = _; rw [List.append_nil])
        rw [eL] at hQ hR
        have v_rd : V101 6000 := hRD.2.1.1
        have k_rd : C102 6000 = .inr (8, [.ref (ad100 6001), .ref (ad100 6002), .ref (ad100 1), .int (iI n), .ref (ad100 6003), .ref (ad100 6005), .int (iI (kC x n a1.2.1)), .int (iI (tF x n a1.2.1)), .int (iI (tT x n a1.2.1)), .int (iI vl104), .int (iI (-1))]) := hRD.2.1.2
        have e_rd : ad100 6000 = ad 6000 := (hOT 6000 (Or.inl (by decide))).1
        have v_tx : V101 1 := hRD.1.1
        have k_tx : C102 1 = .inl (E 1, 300, ai x) := hRD.1.2
        refine lv_aload_n hx hb dX9_factor_37 rfl (lv_at hl 0 rfl) ?_
        refine lv_aload_n hx hb dX9_factor_38 rfl (lv_at hl 0 rfl) ?_
        refine a_get hCK hG 6000 e_rd v_rd k_rd (ci := 8) rfl in_X9 6 (by decide) q330 rfl rfl dX9_factor_39 ?_
        refine W.eq (g2 := F0 m 42 ls [.int (iI (kC x n a1.2.1)), .ref (ad 6000)]) rfl ?_
        refine r_bipush hx hb dX9_factor_42 (by decide) ?_
        refine r_icmp_ne (tgt := 51) hx hb dX9_factor_44 (by decide) (kC_R _ _ _) (by decide) (fun c106 => ?_) (fun c106 => ?_)
        · rw [if_neg (show ¬ (tK x n a1.2.1 = 3 ∧ tV x n a1.2.1 = 41) by omega)] at eR
          have eR : Rz = (false, a1.2.1, a1.2.2) := by rw [eR]; show (false, a1.2.1, a1.2.2 ++ []) = _; rw [List.append_nil]
          clear hkc
          refine r_iconst hx hb dX9_factor_51 ?_
          have hM := met_pass l adK adV st D E A V101 ad100 C102 0 (by decide) x n (kC x n a1.2.1) (tF x n a1.2.1) (tT x n a1.2.1) vl104 (-1) hn hbx v_rd k_rd v_tx k_tx (tBT hp) (by decide)
          rw [e_rd] at hM
          refine a_calli (a_runV (n := 1) (C0 := RX9) (b := (ad 6000)) (rest := []) (as := [.int (iI 0)]) hCK hE hA hml (hM) (by have h := g_rec (r := 6000) (ci := 8) hK hG v_rd rfl k_rd; rw [e_rd] at h; exact h) q494 q496 qs6 q86 q497 (by decide +kernel) ⟨rfl, rfl⟩ hR (amr_ok (lv1 (by decide)) (by decide)) ⟨(by rw [hR]; exact (Nat.le_refl _)), (by rw [hR]; exact (Nat.le_refl _))⟩ hG hS rfl hl.1 rfl (Nat.le_of_ble_eq_true rfl) dX9_factor_52) hS (fun z107 ad108 V109 C110 H locs hp111 hG hS => ?_)
          obtain ⟨rfl, rfl, rfl, hcs, o9⟩ := hp111
          have k9 := (hcs.resolve_right (fun h => absurd h.1 (by decide))).2
          rw [if_pos rfl] at k9
          have hRD := hRD.tok k9 o9
          have hOT := hOT.set o9
          have v_rd : V101 6000 := hRD.2.1.1
          have k_rd : C110 6000 = .inr (8, [.ref (ad100 6001), .ref (ad100 6002), .ref (ad100 1), .int (iI n), .ref (ad100 6003), .ref (ad100 6005), .int (iI (kC x n a1.2.1)), .int (iI (tF x n a1.2.1)), .int (iI (tT x n a1.2.1)), .int (iI vl104), .int (iI (tF x n a1.2.1))]) := hRD.2.1.2
          have e_rd : ad100 6000 = ad 6000 := (hOT 6000 (Or.inl (by decide))).1
          have v_tx : V101 1 := hRD.1.1
          have k_tx : C110 1 = .inl (E 1, 300, ai x) := hRD.1.2
          refine W.eq (g2 := F0 m 55 ls [.int (iI 0)]) rfl ?_
          refine r_if_eq (tgt := 62) hx hb dX9_factor_55 (by decide) (by decide) (fun c113 => ?_) (fun c113 => absurd c113 (by decide))
          refine r_iconst hx hb dX9_factor_62 ?_
          exact a_zret hCK hQ hr hlk hG hS (Nat.le_refl _) (Nat.le_refl _) (by decide) dX9_factor_63 (⟨by rw [eR]; rfl, ⟨vl104, mo105, by rw [eR, ← hm0]; exact hRD, by rw [eR]; exact hNA⟩, hOT⟩)
        · rw [if_pos (show tK x n a1.2.1 = 3 ∧ tV x n a1.2.1 = 41 by omega)] at eR
          have eR : Rz = (true, tT x n a1.2.1, a1.2.2) := by rw [eR]; show (true, tT x n a1.2.1, a1.2.2 ++ []) = _; rw [List.append_nil]
          clear hkc
          refine r_iconst hx hb dX9_factor_47 ?_
          refine lv_goto (tgt := 52) hx hb dX9_factor_48 (by decide) ?_
          have hM := met_pass l adK adV st D E A V101 ad100 C102 1 (by decide) x n (kC x n a1.2.1) (tF x n a1.2.1) (tT x n a1.2.1) vl104 (-1) hn hbx v_rd k_rd v_tx k_tx (tBT hp) (by decide)
          rw [e_rd] at hM
          refine a_calli (a_runV (n := 1) (C0 := RX9) (b := (ad 6000)) (rest := []) (as := [.int (iI 1)]) hCK hE hA hml (hM) (by have h := g_rec (r := 6000) (ci := 8) hK hG v_rd rfl k_rd; rw [e_rd] at h; exact h) q494 q496 qs6 q86 q497 (by decide +kernel) ⟨rfl, rfl⟩ hR (amr_ok (lv1 (by decide)) (by decide)) ⟨(by rw [hR]; exact (Nat.le_refl _)), (by rw [hR]; exact (Nat.le_refl _))⟩ hG hS rfl hl.1 rfl (Nat.le_of_ble_eq_true rfl) dX9_factor_52) hS (fun z114 ad115 V116 C117 H locs hp118 hG hS => ?_)
          obtain ⟨rfl, rfl, rfl, hcs, o9⟩ := hp118
          obtain ⟨vl119, k9, hNA⟩ := (hcs.resolve_left (fun h => absurd h.1 (by decide))).2
          have hRD := hRD.tok k9 o9
          have hOT := hOT.set o9
          have hal : (((all ++ a1.2.2).length : Nat) : Int) ≤ tT x n a1.2.1 := hal_t hp hal
          have hp : 0 ≤ tT x n a1.2.1 ∧ tT x n a1.2.1 ≤ n := tBT hp
          have htb := tB (x := x) hp
          have v_rd : V101 6000 := hRD.2.1.1
          have k_rd : C117 6000 = .inr (8, [.ref (ad100 6001), .ref (ad100 6002), .ref (ad100 1), .int (iI n), .ref (ad100 6003), .ref (ad100 6005), .int (iI (kC x n (tT x n a1.2.1))), .int (iI (tF x n (tT x n a1.2.1))), .int (iI (tT x n (tT x n a1.2.1))), .int (iI vl119), .int (iI (-1))]) := hRD.2.1.2
          have e_rd : ad100 6000 = ad 6000 := (hOT 6000 (Or.inl (by decide))).1
          have v_tx : V101 1 := hRD.1.1
          have k_tx : C117 1 = .inl (E 1, 300, ai x) := hRD.1.2
          refine W.eq (g2 := F0 m 55 ls [.int (iI 1)]) rfl ?_
          refine r_if_eq (tgt := 62) hx hb dX9_factor_55 (by decide) (by decide) (fun c120 => absurd c120 (by decide)) (fun c120 => ?_)
          refine r_iconst hx hb dX9_factor_58 ?_
          refine lv_goto (tgt := 63) hx hb dX9_factor_59 (by decide) ?_
          exact a_zret hCK hQ hr hlk hG hS (Nat.le_refl _) (Nat.le_refl _) (by decide) dX9_factor_63 (⟨by rw [eR]; rfl, ⟨vl119, mo105, by rw [eR, ← hm0]; exact hRD, by rw [eR]; exact hNA⟩, hOT⟩)
