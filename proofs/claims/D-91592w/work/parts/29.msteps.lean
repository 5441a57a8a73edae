/-! THE MODEL: its reader, a step -/
set_option maxRecDepth 100000
theorem dX2_both_0 : decode cX2_both 0 = .ok (.aload_n 0, 1) := by decide +kernel
theorem dX2_both_1 : decode cX2_both 1 = .ok (.iload_n 1, 1) := by decide +kernel
theorem dX2_both_2 : decode cX2_both 2 = .ok (.invokevirtual 306, 3) := by decide +kernel
theorem dX2_both_5 : decode cX2_both 5 = .ok (.aload_n 0, 1) := by decide +kernel
theorem dX2_both_6 : decode cX2_both 6 = .ok (.iload_n 2, 1) := by decide +kernel
theorem dX2_both_7 : decode cX2_both 7 = .ok (.invokevirtual 306, 3) := by decide +kernel
theorem dX2_both_10 : decode cX2_both 10 = .ok (.iconst 1, 1) := by decide +kernel
theorem dX2_both_11 : decode cX2_both 11 = .ok (.ireturn, 1) := by decide +kernel
set_option maxHeartbeats 4000000 in
theorem met_both (l : Launch) (D : va_G) (E : Nat → ClassId) (A : Nat → Prop) (h : Nat) (ad : Nat → Nat) (I : Nat → Int) (F : Nat → Int → Int) (la fi : Int) (h54 : 0 ≤ I 54 ∧ I 54 ≤ 500) : MM l yX2_both cX2_both 3 (some .boolean) (mrm 1) D E A h ad [.int (iI la), .int (iI fi)] I F (MQi D E A h ad (fun z I1 F1 => 1 = z ∧ va_up (va_up I 54 ((I 54) + 1)) 54 (((I 54) + 1) + 1) = I1 ∧ upF (upF F 53 (I 54) la) 53 ((I 54) + 1) fi = F1)) := by
  refine m_start (by decide) rfl (Nat.le_of_ble_eq_true rfl) ?_
  intro p e R s m args below meth c ls Q hR hQ hC hml hr hlk hM hS hl
  have hx := hC.1
  have hb := hC.2.1
  have hown := hC.2.2.1
  have hts := hC.2.2.2.1
  have hl : lv_has ls 3 [(0, .ref h), (1, .int (iI la)), (2, .int (iI fi))] := hl
  refine lv_aload_n hx hb dX2_both_0 rfl (lv_at hl 0 rfl) ?_
  refine lv_iload_n hx hb dX2_both_1 rfl (lv_at hl 1 rfl) ?_
  refine m_callv (kX2_push (rest := []) (as := [.int (iI la)]) hC hml (met_push l D E A h ad I F la (show 0 ≤ (I 54) ∧ (I 54) < 600 by omega)) ⟨rfl, rfl⟩ hR (by decide) hM rfl hl.1 rfl (Nat.le_of_ble_eq_true rfl) dX2_both_2) hS (fun I2 F3 H locs hp4 hM hS => ?_)
  obtain ⟨rfl, rfl⟩ := hp4
  refine lv_aload_n hx hb dX2_both_5 rfl (lv_at hl 0 rfl) ?_
  refine lv_iload_n hx hb dX2_both_6 rfl (lv_at hl 2 rfl) ?_
  refine m_callv (kX2_push (rest := []) (as := [.int (iI fi)]) hC hml (met_push l D E A h ad (va_up I 54 ((I 54) + 1)) (upF F 53 (I 54) la) fi (show 0 ≤ ((I 54) + 1) ∧ ((I 54) + 1) < 600 by omega)) ⟨rfl, rfl⟩ hR (by decide) hM rfl hl.1 rfl (Nat.le_of_ble_eq_true rfl) dX2_both_7) hS (fun I6 F7 H locs hp8 hM hS => ?_)
  obtain ⟨rfl, rfl⟩ := hp8
  refine r_iconst hx hb dX2_both_10 ?_
  exact m_zret hC hQ hr hlk hM hS (by decide) dX2_both_11 (⟨rfl, rfl, rfl⟩)
theorem dX2_deeper_0 : decode cX2_deeper 0 = .ok (.aload_n 0, 1) := by decide +kernel
theorem dX2_deeper_1 : decode cX2_deeper 1 = .ok (.getfield 303, 3) := by decide +kernel
theorem dX2_deeper_4 : decode cX2_deeper 4 = .ok (.bipush 8, 2) := by decide +kernel
theorem dX2_deeper_6 : decode cX2_deeper 6 = .ok (.if_icmp .ne 5, 3) := by decide +kernel
theorem dX2_deeper_9 : decode cX2_deeper 9 = .ok (.iconst 0, 1) := by decide +kernel
theorem dX2_deeper_10 : decode cX2_deeper 10 = .ok (.ireturn, 1) := by decide +kernel
theorem dX2_deeper_11 : decode cX2_deeper 11 = .ok (.aload_n 0, 1) := by decide +kernel
theorem dX2_deeper_12 : decode cX2_deeper 12 = .ok (.dup, 1) := by decide +kernel
theorem dX2_deeper_13 : decode cX2_deeper 13 = .ok (.getfield 303, 3) := by decide +kernel
theorem dX2_deeper_16 : decode cX2_deeper 16 = .ok (.iconst 1, 1) := by decide +kernel
theorem dX2_deeper_17 : decode cX2_deeper 17 = .ok (.iadd, 1) := by decide +kernel
theorem dX2_deeper_18 : decode cX2_deeper 18 = .ok (.putfield 303, 3) := by decide +kernel
theorem dX2_deeper_21 : decode cX2_deeper 21 = .ok (.aload_n 0, 1) := by decide +kernel
theorem dX2_deeper_22 : decode cX2_deeper 22 = .ok (.bipush 12, 2) := by decide +kernel
theorem dX2_deeper_24 : decode cX2_deeper 24 = .ok (.invokevirtual 306, 3) := by decide +kernel
theorem dX2_deeper_27 : decode cX2_deeper 27 = .ok (.iconst 1, 1) := by decide +kernel
theorem dX2_deeper_28 : decode cX2_deeper 28 = .ok (.ireturn, 1) := by decide +kernel
set_option maxHeartbeats 4000000 in
theorem met_deeper (l : Launch) (D : va_G) (E : Nat → ClassId) (A : Nat → Prop) (h : Nat) (ad : Nat → Nat) (I : Nat → Int) (F : Nat → Int → Int) (h54 : 0 ≤ I 54 ∧ I 54 ≤ 500) (h55 : 0 ≤ I 55 ∧ I 55 ≤ 8) : MM l yX2_deeper cX2_deeper 1 (some .boolean) (mrm 1) D E A h ad [] I F (MQi D E A h ad (fun z I1 F1 => (I 55 = 8 ∧ 0 = z ∧ I = I1 ∧ F = F1) ∨ (I 55 ≠ 8 ∧ 1 = z ∧ va_up (va_up I 55 ((I 55) + 1)) 54 ((I 54) + 1) = I1 ∧ upF F 53 (I 54) 12 = F1))) := by
  refine m_start (by decide) rfl (Nat.le_of_ble_eq_true rfl) ?_
  intro p e R s m args below meth c ls Q hR hQ hC hml hr hlk hM hS hl
  have hx := hC.1
  have hb := hC.2.1
  have hown := hC.2.2.1
  have hts := hC.2.2.2.1
  have hl : lv_has ls 1 [(0, .ref h)] := hl
  refine lv_aload_n hx hb dX2_deeper_0 rfl (lv_at hl 0 rfl) ?_
  refine mg_55 (v := I 55) hC hM rfl dX2_deeper_1 ?_
  refine r_bipush hx hb dX2_deeper_4 (by decide) ?_
  refine r_icmp_ne (tgt := 11) hx hb dX2_deeper_6 (by decide) (by omega) (by decide) (fun cd => ?_) (fun cd => ?_)
  · refine lv_aload_n hx hb dX2_deeper_11 rfl (lv_at hl 0 rfl) ?_
    refine lv_dup hx hb dX2_deeper_12 rfl ?_
    refine mg_55 (v := I 55) hC hM rfl dX2_deeper_13 ?_
    refine r_iconst hx hb dX2_deeper_16 ?_
    refine r_iadd hx hb dX2_deeper_17 ?_
    refine mp_55 hC hM hS dX2_deeper_18 (fun H locs hM hS => ?_)
    refine lv_aload_n hx hb dX2_deeper_21 rfl (lv_at hl 0 rfl) ?_
    refine r_bipush hx hb dX2_deeper_22 (by decide) ?_
    refine m_callv (kX2_push (rest := []) (as := [.int (iI 12)]) hC hml (met_push l D E A h ad (va_up I 55 ((I 55) + 1)) F 12 (show 0 ≤ (I 54) ∧ (I 54) < 600 by omega)) ⟨rfl, rfl⟩ hR (by decide) hM rfl hl.1 rfl (Nat.le_of_ble_eq_true rfl) dX2_deeper_24) hS (fun I2 F3 H locs hp4 hM hS => ?_)
    obtain ⟨rfl, rfl⟩ := hp4
    refine r_iconst hx hb dX2_deeper_27 ?_
    exact m_zret hC hQ hr hlk hM hS (by decide) dX2_deeper_28 (Or.inr ⟨cd, rfl, rfl, rfl⟩)
  · refine r_iconst hx hb dX2_deeper_9 ?_
    exact m_zret hC hQ hr hlk hM hS (by decide) dX2_deeper_10 (Or.inl ⟨cd, rfl, rfl, rfl⟩)
theorem dX2_more_0 : decode cX2_more 0 = .ok (.aload_n 0, 1) := by decide +kernel
theorem dX2_more_1 : decode cX2_more 1 = .ok (.iload_n 1, 1) := by decide +kernel
theorem dX2_more_2 : decode cX2_more 2 = .ok (.invokevirtual 312, 3) := by decide +kernel
theorem dX2_more_5 : decode cX2_more 5 = .ok (.istore 7, 2) := by decide +kernel
theorem dX2_more_7 : decode cX2_more 7 = .ok (.iload 7, 2) := by decide +kernel
theorem dX2_more_9 : decode cX2_more 9 = .ok (.ifCond .ne 13, 3) := by decide +kernel
theorem dX2_more_12 : decode cX2_more 12 = .ok (.aload_n 0, 1) := by decide +kernel
theorem dX2_more_13 : decode cX2_more 13 = .ok (.iload_n 3, 1) := by decide +kernel
theorem dX2_more_14 : decode cX2_more 14 = .ok (.invokevirtual 312, 3) := by decide +kernel
theorem dX2_more_17 : decode cX2_more 17 = .ok (.ifCond .ne 5, 3) := by decide +kernel
theorem dX2_more_20 : decode cX2_more 20 = .ok (.iconst 1, 1) := by decide +kernel
theorem dX2_more_21 : decode cX2_more 21 = .ok (.ireturn, 1) := by decide +kernel
theorem dX2_more_22 : decode cX2_more 22 = .ok (.aload_n 0, 1) := by decide +kernel
theorem dX2_more_23 : decode cX2_more 23 = .ok (.invokevirtual 300, 3) := by decide +kernel
theorem dX2_more_26 : decode cX2_more 26 = .ok (.aload_n 0, 1) := by decide +kernel
theorem dX2_more_27 : decode cX2_more 27 = .ok (.iload 5, 2) := by decide +kernel
theorem dX2_more_29 : decode cX2_more 29 = .ok (.invokevirtual 306, 3) := by decide +kernel
theorem dX2_more_32 : decode cX2_more 32 = .ok (.aload_n 0, 1) := by decide +kernel
theorem dX2_more_33 : decode cX2_more 33 = .ok (.sipush 1000, 3) := by decide +kernel
theorem dX2_more_36 : decode cX2_more 36 = .ok (.iload 7, 2) := by decide +kernel
theorem dX2_more_38 : decode cX2_more 38 = .ok (.ifCond .eq 7, 3) := by decide +kernel
theorem dX2_more_41 : decode cX2_more 41 = .ok (.iload_n 2, 1) := by decide +kernel
theorem dX2_more_42 : decode cX2_more 42 = .ok (.goto 5, 3) := by decide +kernel
theorem dX2_more_45 : decode cX2_more 45 = .ok (.iload 4, 2) := by decide +kernel
theorem dX2_more_47 : decode cX2_more 47 = .ok (.iadd, 1) := by decide +kernel
theorem dX2_more_48 : decode cX2_more 48 = .ok (.invokevirtual 306, 3) := by decide +kernel
theorem dX2_more_51 : decode cX2_more 51 = .ok (.aload_n 0, 1) := by decide +kernel
theorem dX2_more_52 : decode cX2_more 52 = .ok (.iload 6, 2) := by decide +kernel
theorem dX2_more_54 : decode cX2_more 54 = .ok (.invokevirtual 306, 3) := by decide +kernel
theorem dX2_more_57 : decode cX2_more 57 = .ok (.iconst 1, 1) := by decide +kernel
theorem dX2_more_58 : decode cX2_more 58 = .ok (.ireturn, 1) := by decide +kernel
set_option maxHeartbeats 4000000 in
theorem met_more (l : Launch) (adK adV st : Nat → Nat) (D : va_G) (E : Nat → ClassId) (A : Nat → Prop) (h : Nat) (ad : Nat → Nat) (I : Nat → Int) (F : Nat → Int → Int) (one d1 two d2 ag pa : Int) (r1 : R32 one) (r2 : R32 two) (hne : one ≠ two) (h49 : 0 ≤ I 49 ∧ I 49 ≤ I 48) (h54 : 0 ≤ I 54 ∧ I 54 ≤ 500) (h59 : 0 ≤ I 59 ∧ I 59 < 300) (h55 : 0 ≤ I 55 ∧ I 55 ≤ 8) (r50 : 0 ≤ I 50 ∧ I 50 ≤ 4) (r52 : -128 ≤ I 52 ∧ I 52 ≤ 10000019) (gl0 : gTxt I F) : ME l yX2_more cX2_more 8 (some .boolean) (mrm 6) adK adV st D E A h ad [.int (iI one), .int (iI d1), .int (iI two), .int (iI d2), .int (iI ag), .int (iI pa)] I F (MQi D E A h ad (fun z I1 F1 => ((I 50 = 3 ∧ (I 52 = one ∨ I 52 = two)) ∧ 1 = z ∧ va_up (va_up (va_up (va_up (va_up (va_up (va_up I 49 (tT (F 47) (I 48) (I 49))) 50 (tK (F 47) (I 48) (I 49))) 51 (tF (F 47) (I 48) (I 49))) 52 (tV (F 47) (I 48) (I 49))) 54 ((I 54) + 1)) 54 (((I 54) + 1) + 1)) 54 ((((I 54) + 1) + 1) + 1) = I1 ∧ upF (upF (upF F 53 (I 54) ag) 53 ((I 54) + 1) (1000 + (if I 52 = one then d1 else d2))) 53 (((I 54) + 1) + 1) pa = F1) ∨ (¬ (I 50 = 3 ∧ (I 52 = one ∨ I 52 = two)) ∧ 1 = z ∧ I = I1 ∧ F = F1))) := by
  refine m_startE (by decide) rfl (Nat.le_of_ble_eq_true rfl) ?_
  intro p e R s m args below meth c ls Q hR hQ hC hml hr hlk hM hS hE hl
  have hx := hC.1
  have hb := hC.2.1
  have hown := hC.2.2.1
  have hts := hC.2.2.2.1
  have hl : lv_has ls 8 [(0, .ref h), (1, .int (iI one)), (2, .int (iI d1)), (3, .int (iI two)), (4, .int (iI d2)), (5, .int (iI ag)), (6, .int (iI pa))] := hl
  obtain ⟨i48, a47⟩ := id gl0
  have hT := tT_bd (F 47) h49.2
  refine lv_aload_n hx hb dX2_more_0 rfl (lv_at hl 0 rfl) ?_
  refine lv_iload_n hx hb dX2_more_1 rfl (lv_at hl 1 rfl) ?_
  refine m_calli (kX2_isSign (rest := []) (as := [.int (iI one)]) hC hml (met_isSign l D E A h ad I F one r1 (show R32 (I 50) by omega) (show R32 (I 52) by omega)) ⟨rfl, rfl⟩ hR (by decide) hM rfl hl.1 rfl (Nat.le_of_ble_eq_true rfl) dX2_more_2) hS (fun z1 I2 F3 H locs hp4 hM hS => ?_)
  obtain ⟨rfl, rfl, rfl⟩ := hp4
  refine lv_istore (lv' := [(7, .int (iI (if I 50 = 3 ∧ I 52 = one then 1 else 0))), (0, .ref h), (1, .int (iI one)), (2, .int (iI d1)), (3, .int (iI two)), (4, .int (iI d2)), (5, .int (iI ag)), (6, .int (iI pa))]) hx hb dX2_more_5 hl (by decide) rfl (fun ls hl => ?_)
  refine lv_iload hx hb dX2_more_7 (lv_at hl 0 rfl) ?_
  refine r_ifneB (tgt := 22) hx hb dX2_more_9 (by decide) (fun cf => ?_) (fun cf => ?_)
  · refine lv_aload_n hx hb dX2_more_22 rfl (lv_at hl 1 rfl) ?_
    refine m_callv (m_runE (n := 0) (rest := []) (as := []) hC hml (met_next l adK adV st D E A h ad I F (show 0 ≤ (I 49) ∧ (I 49) ≤ (I 48) by omega) gl0) q1388 q1390 qs47 q73 q1391 (by decide +kernel) ⟨rfl, rfl⟩ hR (by decide) ⟨Nat.zero_le _, Nat.zero_le _⟩ hM hE hS rfl hl.1 rfl (Nat.le_of_ble_eq_true rfl) dX2_more_23) hS (fun I6 F7 H locs hp8 hM hS => ?_)
    obtain ⟨rfl, rfl⟩ := hp8
    refine lv_aload_n hx hb dX2_more_26 rfl (lv_at hl 1 rfl) ?_
    refine lv_iload hx hb dX2_more_27 (lv_at hl 6 rfl) ?_
    refine m_callv (kX2_push (rest := []) (as := [.int (iI ag)]) hC hml (met_push l D E A h ad (va_up (va_up (va_up (va_up I 49 (tT (F 47) (I 48) (I 49))) 50 (tK (F 47) (I 48) (I 49))) 51 (tF (F 47) (I 48) (I 49))) 52 (tV (F 47) (I 48) (I 49))) F ag (show 0 ≤ (I 54) ∧ (I 54) < 600 by omega)) ⟨rfl, rfl⟩ hR (by decide) hM rfl hl.1 rfl (Nat.le_of_ble_eq_true rfl) dX2_more_29) hS (fun I10 F11 H locs hp12 hM hS => ?_)
    obtain ⟨rfl, rfl⟩ := hp12
    refine lv_aload_n hx hb dX2_more_32 rfl (lv_at hl 1 rfl) ?_
    refine r_sipush hx hb dX2_more_33 (by decide) ?_
    refine lv_iload hx hb dX2_more_36 (lv_at hl 0 rfl) ?_
    refine r_ifeqB (tgt := 45) hx hb dX2_more_38 (by decide) (fun cz => ?_) (fun cz => ?_)
    · exact absurd cf cz
    · refine lv_iload_n hx hb dX2_more_41 rfl (lv_at hl 3 rfl) ?_
      refine lv_goto (tgt := 47) hx hb dX2_more_42 (by decide) ?_
      rw [show d1 = if I 52 = one then d1 else d2 from (if_pos (by omega)).symm]
      refine r_iadd hx hb dX2_more_47 ?_
      refine m_callv (kX2_push (rest := []) (as := [.int (iI (1000 + (if I 52 = one then d1 else d2)))]) hC hml (met_push l D E A h ad (va_up (va_up (va_up (va_up (va_up I 49 (tT (F 47) (I 48) (I 49))) 50 (tK (F 47) (I 48) (I 49))) 51 (tF (F 47) (I 48) (I 49))) 52 (tV (F 47) (I 48) (I 49))) 54 ((I 54) + 1)) (upF F 53 (I 54) ag) (1000 + (if I 52 = one then d1 else d2)) (show 0 ≤ ((I 54) + 1) ∧ ((I 54) + 1) < 600 by omega)) ⟨rfl, rfl⟩ hR (by decide) hM rfl hl.1 rfl (Nat.le_of_ble_eq_true rfl) dX2_more_48) hS (fun I14 F15 H locs hp16 hM hS => ?_)
      obtain ⟨rfl, rfl⟩ := hp16
      refine lv_aload_n hx hb dX2_more_51 rfl (lv_at hl 1 rfl) ?_
      refine lv_iload hx hb dX2_more_52 (lv_at hl 7 rfl) ?_
      refine m_callv (kX2_push (rest := []) (as := [.int (iI pa)]) hC hml (met_push l D E A h ad (va_up (va_up (va_up (va_up (va_up (va_up I 49 (tT (F 47) (I 48) (I 49))) 50 (tK (F 47) (I 48) (I 49))) 51 (tF (F 47) (I 48) (I 49))) 52 (tV (F 47) (I 48) (I 49))) 54 ((I 54) + 1)) 54 (((I 54) + 1) + 1)) (upF (upF F 53 (I 54) ag) 53 ((I 54) + 1) (1000 + (if I 52 = one then d1 else d2))) pa (show 0 ≤ (((I 54) + 1) + 1) ∧ (((I 54) + 1) + 1) < 600 by omega)) ⟨rfl, rfl⟩ hR (by decide) hM rfl hl.1 rfl (Nat.le_of_ble_eq_true rfl) dX2_more_54) hS (fun I18 F19 H locs hp20 hM hS => ?_)
      obtain ⟨rfl, rfl⟩ := hp20
      refine r_iconst hx hb dX2_more_57 ?_
      exact m_zret hC hQ hr hlk hM hS (by decide) dX2_more_58 (Or.inl ⟨by omega, rfl, rfl, rfl⟩)
  · refine lv_aload_n hx hb dX2_more_12 rfl (lv_at hl 1 rfl) ?_
    refine lv_iload_n hx hb dX2_more_13 rfl (lv_at hl 4 rfl) ?_
    refine m_calli (kX2_isSign (rest := []) (as := [.int (iI two)]) hC hml (met_isSign l D E A h ad I F two r2 (show R32 (I 50) by omega) (show R32 (I 52) by omega)) ⟨rfl, rfl⟩ hR (by decide) hM rfl hl.1 rfl (Nat.le_of_ble_eq_true rfl) dX2_more_14) hS (fun z21 I22 F23 H locs hp24 hM hS => ?_)
    obtain ⟨rfl, rfl, rfl⟩ := hp24
    refine r_ifneB (tgt := 22) hx hb dX2_more_17 (by decide) (fun c25 => ?_) (fun c25 => ?_)
    · refine lv_aload_n hx hb dX2_more_22 rfl (lv_at hl 1 rfl) ?_
      refine m_callv (m_runE (n := 0) (rest := []) (as := []) hC hml (met_next l adK adV st D E A h ad I F (show 0 ≤ (I 49) ∧ (I 49) ≤ (I 48) by omega) gl0) q1388 q1390 qs47 q73 q1391 (by decide +kernel) ⟨rfl, rfl⟩ hR (by decide) ⟨Nat.zero_le _, Nat.zero_le _⟩ hM hE hS rfl hl.1 rfl (Nat.le_of_ble_eq_true rfl) dX2_more_23) hS (fun I27 F28 H locs hp29 hM hS => ?_)
      obtain ⟨rfl, rfl⟩ := hp29
      refine lv_aload_n hx hb dX2_more_26 rfl (lv_at hl 1 rfl) ?_
      refine lv_iload hx hb dX2_more_27 (lv_at hl 6 rfl) ?_
      refine m_callv (kX2_push (rest := []) (as := [.int (iI ag)]) hC hml (met_push l D E A h ad (va_up (va_up (va_up (va_up I 49 (tT (F 47) (I 48) (I 49))) 50 (tK (F 47) (I 48) (I 49))) 51 (tF (F 47) (I 48) (I 49))) 52 (tV (F 47) (I 48) (I 49))) F ag (show 0 ≤ (I 54) ∧ (I 54) < 600 by omega)) ⟨rfl, rfl⟩ hR (by decide) hM rfl hl.1 rfl (Nat.le_of_ble_eq_true rfl) dX2_more_29) hS (fun I31 F32 H locs hp33 hM hS => ?_)
      obtain ⟨rfl, rfl⟩ := hp33
      refine lv_aload_n hx hb dX2_more_32 rfl (lv_at hl 1 rfl) ?_
      refine r_sipush hx hb dX2_more_33 (by decide) ?_
      refine lv_iload hx hb dX2_more_36 (lv_at hl 0 rfl) ?_
      refine r_ifeqB (tgt := 45) hx hb dX2_more_38 (by decide) (fun cz => ?_) (fun cz => ?_)
      · refine lv_iload hx hb dX2_more_45 (lv_at hl 5 rfl) ?_
        rw [show d2 = if I 52 = one then d1 else d2 from (if_neg (by omega)).symm]
        refine r_iadd hx hb dX2_more_47 ?_
        refine m_callv (kX2_push (rest := []) (as := [.int (iI (1000 + (if I 52 = one then d1 else d2)))]) hC hml (met_push l D E A h ad (va_up (va_up (va_up (va_up (va_up I 49 (tT (F 47) (I 48) (I 49))) 50 (tK (F 47) (I 48) (I 49))) 51 (tF (F 47) (I 48) (I 49))) 52 (tV (F 47) (I 48) (I 49))) 54 ((I 54) + 1)) (upF F 53 (I 54) ag) (1000 + (if I 52 = one then d1 else d2)) (show 0 ≤ ((I 54) + 1) ∧ ((I 54) + 1) < 600 by omega)) ⟨rfl, rfl⟩ hR (by decide) hM rfl hl.1 rfl (Nat.le_of_ble_eq_true rfl) dX2_more_48) hS (fun I35 F36 H locs hp37 hM hS => ?_)
        obtain ⟨rfl, rfl⟩ := hp37
        refine lv_aload_n hx hb dX2_more_51 rfl (lv_at hl 1 rfl) ?_
        refine lv_iload hx hb dX2_more_52 (lv_at hl 7 rfl) ?_
        refine m_callv (kX2_push (rest := []) (as := [.int (iI pa)]) hC hml (met_push l D E A h ad (va_up (va_up (va_up (va_up (va_up (va_up I 49 (tT (F 47) (I 48) (I 49))) 50 (tK (F 47) (I 48) (I 49))) 51 (tF (F 47) (I 48) (I 49))) 52 (tV (F 47) (I 48) (I 49))) 54 ((I 54) + 1)) 54 (((I 54) + 1) + 1)) (upF (upF F 53 (I 54) ag) 53 ((I 54) + 1) (1000 + (if I 52 = one then d1 else d2))) pa (show 0 ≤ (((I 54) + 1) + 1) ∧ (((I 54) + 1) + 1) < 600 by omega)) ⟨rfl, rfl⟩ hR (by decide) hM rfl hl.1 rfl (Nat.le_of_ble_eq_true rfl) dX2_more_54) hS (fun I39 F40 H locs hp41 hM hS => ?_)
        obtain ⟨rfl, rfl⟩ := hp41
        refine r_iconst hx hb dX2_more_57 ?_
        exact m_zret hC hQ hr hlk hM hS (by decide) dX2_more_58 (Or.inl ⟨by omega, rfl, rfl, rfl⟩)
      · exact absurd cz cf
    · refine r_iconst hx hb dX2_more_20 ?_
      exact m_zret hC hQ hr hlk hM hS (by decide) dX2_more_21 (Or.inr ⟨by omega, rfl, rfl, rfl⟩)
theorem dX2_moreWords_0 : decode cX2_moreWords 0 = .ok (.aload_n 0, 1) := by decide +kernel
theorem dX2_moreWords_1 : decode cX2_moreWords 1 = .ok (.iload_n 1, 1) := by decide +kernel
theorem dX2_moreWords_2 : decode cX2_moreWords 2 = .ok (.invokevirtual 346, 3) := by decide +kernel
theorem dX2_moreWords_5 : decode cX2_moreWords 5 = .ok (.ifCond .ne 5, 3) := by decide +kernel
theorem dX2_moreWords_8 : decode cX2_moreWords 8 = .ok (.iconst 1, 1) := by decide +kernel
theorem dX2_moreWords_9 : decode cX2_moreWords 9 = .ok (.ireturn, 1) := by decide +kernel
theorem dX2_moreWords_10 : decode cX2_moreWords 10 = .ok (.aload_n 0, 1) := by decide +kernel
theorem dX2_moreWords_11 : decode cX2_moreWords 11 = .ok (.invokevirtual 300, 3) := by decide +kernel
theorem dX2_moreWords_14 : decode cX2_moreWords 14 = .ok (.aload_n 0, 1) := by decide +kernel
theorem dX2_moreWords_15 : decode cX2_moreWords 15 = .ok (.iload_n 3, 1) := by decide +kernel
theorem dX2_moreWords_16 : decode cX2_moreWords 16 = .ok (.invokevirtual 306, 3) := by decide +kernel
theorem dX2_moreWords_19 : decode cX2_moreWords 19 = .ok (.aload_n 0, 1) := by decide +kernel
theorem dX2_moreWords_20 : decode cX2_moreWords 20 = .ok (.sipush 1000, 3) := by decide +kernel
theorem dX2_moreWords_23 : decode cX2_moreWords 23 = .ok (.iload_n 2, 1) := by decide +kernel
theorem dX2_moreWords_24 : decode cX2_moreWords 24 = .ok (.iadd, 1) := by decide +kernel
theorem dX2_moreWords_25 : decode cX2_moreWords 25 = .ok (.invokevirtual 306, 3) := by decide +kernel
theorem dX2_moreWords_28 : decode cX2_moreWords 28 = .ok (.aload_n 0, 1) := by decide +kernel
theorem dX2_moreWords_29 : decode cX2_moreWords 29 = .ok (.iload 4, 2) := by decide +kernel
theorem dX2_moreWords_31 : decode cX2_moreWords 31 = .ok (.invokevirtual 306, 3) := by decide +kernel
theorem dX2_moreWords_34 : decode cX2_moreWords 34 = .ok (.iconst 1, 1) := by decide +kernel
theorem dX2_moreWords_35 : decode cX2_moreWords 35 = .ok (.ireturn, 1) := by decide +kernel
set_option maxHeartbeats 4000000 in
theorem met_moreWords (l : Launch) (adK adV st : Nat → Nat) (D : va_G) (E : Nat → ClassId) (A : Nat → Prop) (h : Nat) (ad : Nat → Nat) (I : Nat → Int) (F : Nat → Int → Int) (wd wh ag pa : Int) (r1 : R32 wd) (h49 : 0 ≤ I 49 ∧ I 49 ≤ I 48) (h54 : 0 ≤ I 54 ∧ I 54 ≤ 500) (h59 : 0 ≤ I 59 ∧ I 59 < 300) (h55 : 0 ≤ I 55 ∧ I 55 ≤ 8) (r50 : 0 ≤ I 50 ∧ I 50 ≤ 4) (r52 : -128 ≤ I 52 ∧ I 52 ≤ 10000019) (gl0 : gTxt I F) : ME l yX2_moreWords cX2_moreWords 5 (some .boolean) (mrm 6) adK adV st D E A h ad [.int (iI wd), .int (iI wh), .int (iI ag), .int (iI pa)] I F (MQi D E A h ad (fun z I1 F1 => ((I 50 = 2 ∧ I 52 = wd) ∧ 1 = z ∧ va_up (va_up (va_up (va_up (va_up (va_up (va_up I 49 (tT (F 47) (I 48) (I 49))) 50 (tK (F 47) (I 48) (I 49))) 51 (tF (F 47) (I 48) (I 49))) 52 (tV (F 47) (I 48) (I 49))) 54 ((I 54) + 1)) 54 (((I 54) + 1) + 1)) 54 ((((I 54) + 1) + 1) + 1) = I1 ∧ upF (upF (upF F 53 (I 54) ag) 53 ((I 54) + 1) (1000 + wh)) 53 (((I 54) + 1) + 1) pa = F1) ∨ (¬ (I 50 = 2 ∧ I 52 = wd) ∧ 1 = z ∧ I = I1 ∧ F = F1))) := by
  refine m_startE (by decide) rfl (Nat.le_of_ble_eq_true rfl) ?_
  intro p e R s m args below meth c ls Q hR hQ hC hml hr hlk hM hS hE hl
  have hx := hC.1
  have hb := hC.2.1
  have hown := hC.2.2.1
  have hts := hC.2.2.2.1
  have hl : lv_has ls 5 [(0, .ref h), (1, .int (iI wd)), (2, .int (iI wh)), (3, .int (iI ag)), (4, .int (iI pa))] := hl
  obtain ⟨i48, a47⟩ := id gl0
  have hT := tT_bd (F 47) h49.2
  refine lv_aload_n hx hb dX2_moreWords_0 rfl (lv_at hl 0 rfl) ?_
  refine lv_iload_n hx hb dX2_moreWords_1 rfl (lv_at hl 1 rfl) ?_
  refine m_calli (kX2_isWord (rest := []) (as := [.int (iI wd)]) hC hml (met_isWord l D E A h ad I F wd r1 (show R32 (I 50) by omega) (show R32 (I 52) by omega)) ⟨rfl, rfl⟩ hR (by decide) hM rfl hl.1 rfl (Nat.le_of_ble_eq_true rfl) dX2_moreWords_2) hS (fun z1 I2 F3 H locs hp4 hM hS => ?_)
  obtain ⟨rfl, rfl, rfl⟩ := hp4
  refine r_ifneB (tgt := 10) hx hb dX2_moreWords_5 (by decide) (fun c5 => ?_) (fun c5 => ?_)
  · refine lv_aload_n hx hb dX2_moreWords_10 rfl (lv_at hl 0 rfl) ?_
    refine m_callv (m_runE (n := 0) (rest := []) (as := []) hC hml (met_next l adK adV st D E A h ad I F (show 0 ≤ (I 49) ∧ (I 49) ≤ (I 48) by omega) gl0) q1388 q1390 qs47 q73 q1391 (by decide +kernel) ⟨rfl, rfl⟩ hR (by decide) ⟨Nat.zero_le _, Nat.zero_le _⟩ hM hE hS rfl hl.1 rfl (Nat.le_of_ble_eq_true rfl) dX2_moreWords_11) hS (fun I7 F8 H locs hp9 hM hS => ?_)
    obtain ⟨rfl, rfl⟩ := hp9
    refine lv_aload_n hx hb dX2_moreWords_14 rfl (lv_at hl 0 rfl) ?_
    refine lv_iload_n hx hb dX2_moreWords_15 rfl (lv_at hl 3 rfl) ?_
    refine m_callv (kX2_push (rest := []) (as := [.int (iI ag)]) hC hml (met_push l D E A h ad (va_up (va_up (va_up (va_up I 49 (tT (F 47) (I 48) (I 49))) 50 (tK (F 47) (I 48) (I 49))) 51 (tF (F 47) (I 48) (I 49))) 52 (tV (F 47) (I 48) (I 49))) F ag (show 0 ≤ (I 54) ∧ (I 54) < 600 by omega)) ⟨rfl, rfl⟩ hR (by decide) hM rfl hl.1 rfl (Nat.le_of_ble_eq_true rfl) dX2_moreWords_16) hS (fun I11 F12 H locs hp13 hM hS => ?_)
    obtain ⟨rfl, rfl⟩ := hp13
    refine lv_aload_n hx hb dX2_moreWords_19 rfl (lv_at hl 0 rfl) ?_
    refine r_sipush hx hb dX2_moreWords_20 (by decide) ?_
    refine lv_iload_n hx hb dX2_moreWords_23 rfl (lv_at hl 2 rfl) ?_
    refine r_iadd hx hb dX2_moreWords_24 ?_
    refine m_callv (kX2_push (rest := []) (as := [.int (iI (1000 + wh))]) hC hml (met_push l D E A h ad (va_up (va_up (va_up (va_up (va_up I 49 (tT (F 47) (I 48) (I 49))) 50 (tK (F 47) (I 48) (I 49))) 51 (tF (F 47) (I 48) (I 49))) 52 (tV (F 47) (I 48) (I 49))) 54 ((I 54) + 1)) (upF F 53 (I 54) ag) (1000 + wh) (show 0 ≤ ((I 54) + 1) ∧ ((I 54) + 1) < 600 by omega)) ⟨rfl, rfl⟩ hR (by decide) hM rfl hl.1 rfl (Nat.le_of_ble_eq_true rfl) dX2_moreWords_25) hS (fun I15 F16 H locs hp17 hM hS => ?_)
    obtain ⟨rfl, rfl⟩ := hp17
    refine lv_aload_n hx hb dX2_moreWords_28 rfl (lv_at hl 0 rfl) ?_
    refine lv_iload hx hb dX2_moreWords_29 (lv_at hl 4 rfl) ?_
    refine m_callv (kX2_push (rest := []) (as := [.int (iI pa)]) hC hml (met_push l D E A h ad (va_up (va_up (va_up (va_up (va_up (va_up I 49 (tT (F 47) (I 48) (I 49))) 50 (tK (F 47) (I 48) (I 49))) 51 (tF (F 47) (I 48) (I 49))) 52 (tV (F 47) (I 48) (I 49))) 54 ((I 54) + 1)) 54 (((I 54) + 1) + 1)) (upF (upF F 53 (I 54) ag) 53 ((I 54) + 1) (1000 + wh)) pa (show 0 ≤ (((I 54) + 1) + 1) ∧ (((I 54) + 1) + 1) < 600 by omega)) ⟨rfl, rfl⟩ hR (by decide) hM rfl hl.1 rfl (Nat.le_of_ble_eq_true rfl) dX2_moreWords_31) hS (fun I19 F20 H locs hp21 hM hS => ?_)
    obtain ⟨rfl, rfl⟩ := hp21
    refine r_iconst hx hb dX2_moreWords_34 ?_
    exact m_zret hC hQ hr hlk hM hS (by decide) dX2_moreWords_35 (Or.inl ⟨by omega, rfl, rfl, rfl⟩)
  · refine r_iconst hx hb dX2_moreWords_8 ?_
    exact m_zret hC hQ hr hlk hM hS (by decide) dX2_moreWords_9 (Or.inr ⟨by omega, rfl, rfl, rfl⟩)
theorem dX2_compares_0 : decode cX2_compares 0 = .ok (.aload_n 0, 1) := by decide +kernel
theorem dX2_compares_1 : decode cX2_compares 1 = .ok (.bipush 60, 2) := by decide +kernel
theorem dX2_compares_3 : decode cX2_compares 3 = .ok (.invokevirtual 312, 3) := by decide +kernel
theorem dX2_compares_6 : decode cX2_compares 6 = .ok (.ifCond .ne 23, 3) := by decide +kernel
theorem dX2_compares_9 : decode cX2_compares 9 = .ok (.aload_n 0, 1) := by decide +kernel
theorem dX2_compares_10 : decode cX2_compares 10 = .ok (.bipush 62, 2) := by decide +kernel
theorem dX2_compares_12 : decode cX2_compares 12 = .ok (.invokevirtual 312, 3) := by decide +kernel
theorem dX2_compares_15 : decode cX2_compares 15 = .ok (.ifCond .ne 14, 3) := by decide +kernel
theorem dX2_compares_18 : decode cX2_compares 18 = .ok (.aload_n 0, 1) := by decide +kernel
theorem dX2_compares_19 : decode cX2_compares 19 = .ok (.bipush 61, 2) := by decide +kernel
theorem dX2_compares_21 : decode cX2_compares 21 = .ok (.invokevirtual 312, 3) := by decide +kernel
theorem dX2_compares_24 : decode cX2_compares 24 = .ok (.ifCond .ne 5, 3) := by decide +kernel
theorem dX2_compares_27 : decode cX2_compares 27 = .ok (.iconst 0, 1) := by decide +kernel
theorem dX2_compares_28 : decode cX2_compares 28 = .ok (.ireturn, 1) := by decide +kernel
theorem dX2_compares_29 : decode cX2_compares 29 = .ok (.aload_n 0, 1) := by decide +kernel
theorem dX2_compares_30 : decode cX2_compares 30 = .ok (.sipush 1000, 3) := by decide +kernel
theorem dX2_compares_33 : decode cX2_compares 33 = .ok (.aload_n 0, 1) := by decide +kernel
theorem dX2_compares_34 : decode cX2_compares 34 = .ok (.bipush 60, 2) := by decide +kernel
theorem dX2_compares_36 : decode cX2_compares 36 = .ok (.invokevirtual 312, 3) := by decide +kernel
theorem dX2_compares_39 : decode cX2_compares 39 = .ok (.ifCond .eq 8, 3) := by decide +kernel
theorem dX2_compares_42 : decode cX2_compares 42 = .ok (.bipush 6, 2) := by decide +kernel
theorem dX2_compares_44 : decode cX2_compares 44 = .ok (.goto 19, 3) := by decide +kernel
theorem dX2_compares_47 : decode cX2_compares 47 = .ok (.aload_n 0, 1) := by decide +kernel
theorem dX2_compares_48 : decode cX2_compares 48 = .ok (.bipush 62, 2) := by decide +kernel
theorem dX2_compares_50 : decode cX2_compares 50 = .ok (.invokevirtual 312, 3) := by decide +kernel
theorem dX2_compares_53 : decode cX2_compares 53 = .ok (.ifCond .eq 8, 3) := by decide +kernel
theorem dX2_compares_56 : decode cX2_compares 56 = .ok (.bipush 7, 2) := by decide +kernel
theorem dX2_compares_58 : decode cX2_compares 58 = .ok (.goto 5, 3) := by decide +kernel
theorem dX2_compares_61 : decode cX2_compares 61 = .ok (.bipush 8, 2) := by decide +kernel
theorem dX2_compares_63 : decode cX2_compares 63 = .ok (.iadd, 1) := by decide +kernel
theorem dX2_compares_64 : decode cX2_compares 64 = .ok (.invokevirtual 306, 3) := by decide +kernel
theorem dX2_compares_67 : decode cX2_compares 67 = .ok (.aload_n 0, 1) := by decide +kernel
theorem dX2_compares_68 : decode cX2_compares 68 = .ok (.iconst 1, 1) := by decide +kernel
theorem dX2_compares_69 : decode cX2_compares 69 = .ok (.invokevirtual 306, 3) := by decide +kernel
theorem dX2_compares_72 : decode cX2_compares 72 = .ok (.aload_n 0, 1) := by decide +kernel
theorem dX2_compares_73 : decode cX2_compares 73 = .ok (.invokevirtual 315, 3) := by decide +kernel
theorem dX2_compares_76 : decode cX2_compares 76 = .ok (.ireturn, 1) := by decide +kernel
set_option maxHeartbeats 4000000 in
theorem met_compares (l : Launch) (adK adV st : Nat → Nat) (D : va_G) (E : Nat → ClassId) (A : Nat → Prop) (h : Nat) (ad : Nat → Nat) (I : Nat → Int) (F : Nat → Int → Int) (h49 : 0 ≤ I 49 ∧ I 49 ≤ I 48) (h54 : 0 ≤ I 54 ∧ I 54 ≤ 500) (h59 : 0 ≤ I 59 ∧ I 59 < 300) (h55 : 0 ≤ I 55 ∧ I 55 ≤ 8) (r50 : 0 ≤ I 50 ∧ I 50 ≤ 4) (r52 : -128 ≤ I 52 ∧ I 52 ≤ 10000019) (gl0 : gTxt I F) : ME l yX2_compares cX2_compares 1 (some .boolean) (mrm 7) adK adV st D E A h ad [] I F (MQi D E A h ad (fun z I1 F1 => ((I 50 = 3 ∧ (I 52 = 60 ∨ I 52 = 62 ∨ I 52 = 61)) ∧ 1 = z ∧ va_up (va_up (va_up (va_up (va_up (va_up I 54 ((I 54) + 1)) 54 (((I 54) + 1) + 1)) 49 (tT (F 47) (I 48) (I 49))) 50 (tK (F 47) (I 48) (I 49))) 51 (tF (F 47) (I 48) (I 49))) 52 (tV (F 47) (I 48) (I 49)) = I1 ∧ upF (upF F 53 (I 54) (1000 + (if I 52 = 60 then 6 else if I 52 = 62 then 7 else 8))) 53 ((I 54) + 1) 1 = F1) ∨ (¬ (I 50 = 3 ∧ (I 52 = 60 ∨ I 52 = 62 ∨ I 52 = 61)) ∧ 0 = z ∧ I = I1 ∧ F = F1))) := by
  refine m_startE (by decide) rfl (Nat.le_of_ble_eq_true rfl) ?_
  intro p e R s m args below meth c ls Q hR hQ hC hml hr hlk hM hS hE hl
  have hx := hC.1
  have hb := hC.2.1
  have hown := hC.2.2.1
  have hts := hC.2.2.2.1
  have hl : lv_has ls 1 [(0, .ref h)] := hl
  obtain ⟨i48, a47⟩ := id gl0
  refine lv_aload_n hx hb dX2_compares_0 rfl (lv_at hl 0 rfl) ?_
  refine r_bipush hx hb dX2_compares_1 (by decide) ?_
  refine m_calli (kX2_isSign (rest := []) (as := [.int (iI 60)]) hC hml (met_isSign l D E A h ad I F 60 (by decide) (show R32 (I 50) by omega) (show R32 (I 52) by omega)) ⟨rfl, rfl⟩ hR (by decide) hM rfl hl.1 rfl (Nat.le_of_ble_eq_true rfl) dX2_compares_3) hS (fun z1 I2 F3 H locs hp4 hM hS => ?_)
  obtain ⟨rfl, rfl, rfl⟩ := hp4
  have k29 : ∀ (H : Heap) (locs : List Loc) (ls : Array Slot), (I 50 = 3 ∧ (I 52 = 60 ∨ I 52 = 62 ∨ I 52 = 61)) → MW D E A h ad I F H → va_S A s.heap H locs → lv_has ls 1 [(0, .ref h)] → W p l e R s m args below meth c H locs 0 0 Q (F0 m 29 ls []) := by
    intro H locs ls hcm hM hS hl
    refine lv_aload_n hx hb dX2_compares_29 rfl (lv_at hl 0 rfl) ?_
    refine r_sipush hx hb dX2_compares_30 (by decide) ?_
    refine lv_aload_n hx hb dX2_compares_33 rfl (lv_at hl 0 rfl) ?_
    refine r_bipush hx hb dX2_compares_34 (by decide) ?_
    refine m_calli (kX2_isSign (rest := [.int (iI 1000), .ref h]) (as := [.int (iI 60)]) hC hml (met_isSign l D E A h ad I F 60 (by decide) (show R32 (I 50) by omega) (show R32 (I 52) by omega)) ⟨rfl, rfl⟩ hR (by decide) hM rfl hl.1 rfl (Nat.le_of_ble_eq_true rfl) dX2_compares_36) hS (fun z5 I6 F7 H locs hp8 hM hS => ?_)
    obtain ⟨rfl, rfl, rfl⟩ := hp8
    have k63 : ∀ (H : Heap) (locs : List Loc) (ls : Array Slot), MW D E A h ad I F H → va_S A s.heap H locs → lv_has ls 1 [(0, .ref h)] → W p l e R s m args below meth c H locs 0 0 Q (F0 m 63 ls [.int (iI (if I 52 = 60 then 6 else if I 52 = 62 then 7 else 8)), .int (iI 1000), .ref h]) := by
      intro H locs ls  hM hS hl
      refine r_iadd hx hb dX2_compares_63 ?_
      refine m_callv (kX2_push (rest := []) (as := [.int (iI (1000 + (if I 52 = 60 then 6 else if I 52 = 62 then 7 else 8)))]) hC hml (met_push l D E A h ad I F (1000 + (if I 52 = 60 then 6 else if I 52 = 62 then 7 else 8)) (show 0 ≤ (I 54) ∧ (I 54) < 600 by omega)) ⟨rfl, rfl⟩ hR (by decide) hM rfl hl.1 rfl (Nat.le_of_ble_eq_true rfl) dX2_compares_64) hS (fun I10 F11 H locs hp12 hM hS => ?_)
      obtain ⟨rfl, rfl⟩ := hp12
      refine lv_aload_n hx hb dX2_compares_67 rfl (lv_at hl 0 rfl) ?_
      refine r_iconst hx hb dX2_compares_68 ?_
      refine m_callv (kX2_push (rest := []) (as := [.int (iI 1)]) hC hml (met_push l D E A h ad (va_up I 54 ((I 54) + 1)) (upF F 53 (I 54) (1000 + (if I 52 = 60 then 6 else if I 52 = 62 then 7 else 8))) 1 (show 0 ≤ ((I 54) + 1) ∧ ((I 54) + 1) < 600 by omega)) ⟨rfl, rfl⟩ hR (by decide) hM rfl hl.1 rfl (Nat.le_of_ble_eq_true rfl) dX2_compares_69) hS (fun I14 F15 H locs hp16 hM hS => ?_)
      obtain ⟨rfl, rfl⟩ := hp16
      refine lv_aload_n hx hb dX2_compares_72 rfl (lv_at hl 0 rfl) ?_
      refine m_calli (m_runE (n := 0) (rest := []) (as := []) hC hml (met_takes l adK adV st D E A h ad (va_up (va_up I 54 ((I 54) + 1)) 54 (((I 54) + 1) + 1)) (upF (upF F 53 (I 54) (1000 + (if I 52 = 60 then 6 else if I 52 = 62 then 7 else 8))) 53 ((I 54) + 1) 1) (show 0 ≤ (I 49) ∧ (I 49) ≤ (I 48) by omega) gl0) q1421 q1423 qs53 q73 q1424 (by decide +kernel) ⟨rfl, rfl⟩ hR (by decide) ⟨Nat.zero_le _, Nat.zero_le _⟩ hM hE hS rfl hl.1 rfl (Nat.le_of_ble_eq_true rfl) dX2_compares_73) hS (fun z17 I18 F19 H locs hp20 hM hS => ?_)
      obtain ⟨rfl, rfl, rfl⟩ := hp20
      refine W.eq (g2 := F0 m 76 ls [.int (iI 1)]) rfl ?_
      exact m_zret hC hQ hr hlk hM hS (by decide) dX2_compares_76 (Or.inl ⟨by omega, rfl, rfl, rfl⟩)
    refine r_ifeqB (tgt := 47) hx hb dX2_compares_39 (by decide) (fun c21 => ?_) (fun c21 => ?_)
    · refine lv_aload_n hx hb dX2_compares_47 rfl (lv_at hl 0 rfl) ?_
      refine r_bipush hx hb dX2_compares_48 (by decide) ?_
      refine m_calli (kX2_isSign (rest := [.int (iI 1000), .ref h]) (as := [.int (iI 62)]) hC hml (met_isSign l D E A h ad I F 62 (by decide) (show R32 (I 50) by omega) (show R32 (I 52) by omega)) ⟨rfl, rfl⟩ hR (by decide) hM rfl hl.1 rfl (Nat.le_of_ble_eq_true rfl) dX2_compares_50) hS (fun z22 I23 F24 H locs hp25 hM hS => ?_)
      obtain ⟨rfl, rfl, rfl⟩ := hp25
      refine r_ifeqB (tgt := 61) hx hb dX2_compares_53 (by decide) (fun c26 => ?_) (fun c26 => ?_)
      · refine r_bipush hx hb dX2_compares_61 (by decide) ?_
        rw [if_neg (show ¬ I 52 = 60 by omega), if_neg (show ¬ I 52 = 62 by omega)] at k63
        exact k63  _ _ _  hM hS (lv_sub hl [0] rfl)
      · refine r_bipush hx hb dX2_compares_56 (by decide) ?_
        refine lv_goto (tgt := 63) hx hb dX2_compares_58 (by decide) ?_
        rw [if_neg (show ¬ I 52 = 60 by omega), if_pos (show I 52 = 62 by omega)] at k63
        exact k63  _ _ _  hM hS (lv_sub hl [0] rfl)
    · refine r_bipush hx hb dX2_compares_42 (by decide) ?_
      refine lv_goto (tgt := 63) hx hb dX2_compares_44 (by decide) ?_
      rw [if_pos (show I 52 = 60 by omega)] at k63
      exact k63  _ _ _  hM hS (lv_sub hl [0] rfl)
  refine r_ifneB (tgt := 29) hx hb dX2_compares_6 (by decide) (fun c27 => ?_) (fun c27 => ?_)
  · exact k29  _ _ _ (by omega) hM hS (lv_sub hl [0] rfl)
  · refine lv_aload_n hx hb dX2_compares_9 rfl (lv_at hl 0 rfl) ?_
    refine r_bipush hx hb dX2_compares_10 (by decide) ?_
    refine m_calli (kX2_isSign (rest := []) (as := [.int (iI 62)]) hC hml (met_isSign l D E A h ad I F 62 (by decide) (show R32 (I 50) by omega) (show R32 (I 52) by omega)) ⟨rfl, rfl⟩ hR (by decide) hM rfl hl.1 rfl (Nat.le_of_ble_eq_true rfl) dX2_compares_12) hS (fun z28 I29 F30 H locs hp31 hM hS => ?_)
    obtain ⟨rfl, rfl, rfl⟩ := hp31
    refine r_ifneB (tgt := 29) hx hb dX2_compares_15 (by decide) (fun c32 => ?_) (fun c32 => ?_)
    · exact k29  _ _ _ (by omega) hM hS (lv_sub hl [0] rfl)
    · refine lv_aload_n hx hb dX2_compares_18 rfl (lv_at hl 0 rfl) ?_
      refine r_bipush hx hb dX2_compares_19 (by decide) ?_
      refine m_calli (kX2_isSign (rest := []) (as := [.int (iI 61)]) hC hml (met_isSign l D E A h ad I F 61 (by decide) (show R32 (I 50) by omega) (show R32 (I 52) by omega)) ⟨rfl, rfl⟩ hR (by decide) hM rfl hl.1 rfl (Nat.le_of_ble_eq_true rfl) dX2_compares_21) hS (fun z33 I34 F35 H locs hp36 hM hS => ?_)
      obtain ⟨rfl, rfl, rfl⟩ := hp36
      refine r_ifneB (tgt := 29) hx hb dX2_compares_24 (by decide) (fun c37 => ?_) (fun c37 => ?_)
      · exact k29  _ _ _ (by omega) hM hS (lv_sub hl [0] rfl)
      · refine r_iconst hx hb dX2_compares_27 ?_
        exact m_zret hC hQ hr hlk hM hS (by decide) dX2_compares_28 (Or.inr ⟨by omega, rfl, rfl, rfl⟩)
theorem dX2_clauses_0 : decode cX2_clauses 0 = .ok (.aload_n 0, 1) := by decide +kernel
theorem dX2_clauses_1 : decode cX2_clauses 1 = .ok (.getfield 282, 3) := by decide +kernel
theorem dX2_clauses_4 : decode cX2_clauses 4 = .ok (.ifCond .ne 5, 3) := by decide +kernel
theorem dX2_clauses_7 : decode cX2_clauses 7 = .ok (.iconst 1, 1) := by decide +kernel
theorem dX2_clauses_8 : decode cX2_clauses 8 = .ok (.ireturn, 1) := by decide +kernel
theorem dX2_clauses_9 : decode cX2_clauses 9 = .ok (.aload_n 0, 1) := by decide +kernel
theorem dX2_clauses_10 : decode cX2_clauses 10 = .ok (.getfield 282, 3) := by decide +kernel
theorem dX2_clauses_13 : decode cX2_clauses 13 = .ok (.iconst 2, 1) := by decide +kernel
theorem dX2_clauses_14 : decode cX2_clauses 14 = .ok (.if_icmp .ne 28, 3) := by decide +kernel
theorem dX2_clauses_17 : decode cX2_clauses 17 = .ok (.aload_n 0, 1) := by decide +kernel
theorem dX2_clauses_18 : decode cX2_clauses 18 = .ok (.getfield 279, 3) := by decide +kernel
theorem dX2_clauses_21 : decode cX2_clauses 21 = .ok (.iconst 0, 1) := by decide +kernel
theorem dX2_clauses_22 : decode cX2_clauses 22 = .ok (.iconst 1, 1) := by decide +kernel
theorem dX2_clauses_23 : decode cX2_clauses 23 = .ok (.invokestatic 173, 3) := by decide +kernel
theorem dX2_clauses_26 : decode cX2_clauses 26 = .ok (.ifCond .eq 16, 3) := by decide +kernel
theorem dX2_clauses_29 : decode cX2_clauses 29 = .ok (.aload_n 0, 1) := by decide +kernel
theorem dX2_clauses_30 : decode cX2_clauses 30 = .ok (.getfield 139, 3) := by decide +kernel
theorem dX2_clauses_33 : decode cX2_clauses 33 = .ok (.aload_n 0, 1) := by decide +kernel
theorem dX2_clauses_34 : decode cX2_clauses 34 = .ok (.getfield 279, 3) := by decide +kernel
theorem dX2_clauses_37 : decode cX2_clauses 37 = .ok (.iaload, 1) := by decide +kernel
theorem dX2_clauses_38 : decode cX2_clauses 38 = .ok (.iconst (-1), 1) := by decide +kernel
theorem dX2_clauses_39 : decode cX2_clauses 39 = .ok (.if_icmp .eq 5, 3) := by decide +kernel
theorem dX2_clauses_42 : decode cX2_clauses 42 = .ok (.iconst 0, 1) := by decide +kernel
theorem dX2_clauses_43 : decode cX2_clauses 43 = .ok (.ireturn, 1) := by decide +kernel
theorem dX2_clauses_44 : decode cX2_clauses 44 = .ok (.aload_n 0, 1) := by decide +kernel
theorem dX2_clauses_45 : decode cX2_clauses 45 = .ok (.aload_n 0, 1) := by decide +kernel
theorem dX2_clauses_46 : decode cX2_clauses 46 = .ok (.getfield 279, 3) := by decide +kernel
theorem dX2_clauses_49 : decode cX2_clauses 49 = .ok (.putfield 343, 3) := by decide +kernel
theorem dX2_clauses_52 : decode cX2_clauses 52 = .ok (.aload_n 0, 1) := by decide +kernel
theorem dX2_clauses_53 : decode cX2_clauses 53 = .ok (.getfield 139, 3) := by decide +kernel
theorem dX2_clauses_56 : decode cX2_clauses 56 = .ok (.aload_n 0, 1) := by decide +kernel
theorem dX2_clauses_57 : decode cX2_clauses 57 = .ok (.getfield 343, 3) := by decide +kernel
theorem dX2_clauses_60 : decode cX2_clauses 60 = .ok (.aload_n 0, 1) := by decide +kernel
theorem dX2_clauses_61 : decode cX2_clauses 61 = .ok (.getfield 297, 3) := by decide +kernel
theorem dX2_clauses_64 : decode cX2_clauses 64 = .ok (.iastore, 1) := by decide +kernel
theorem dX2_clauses_65 : decode cX2_clauses 65 = .ok (.aload_n 0, 1) := by decide +kernel
theorem dX2_clauses_66 : decode cX2_clauses 66 = .ok (.iconst 0, 1) := by decide +kernel
theorem dX2_clauses_67 : decode cX2_clauses 67 = .ok (.invokevirtual 306, 3) := by decide +kernel
theorem dX2_clauses_70 : decode cX2_clauses 70 = .ok (.aload_n 0, 1) := by decide +kernel
theorem dX2_clauses_71 : decode cX2_clauses 71 = .ok (.bipush 13, 2) := by decide +kernel
theorem dX2_clauses_73 : decode cX2_clauses 73 = .ok (.invokevirtual 306, 3) := by decide +kernel
theorem dX2_clauses_76 : decode cX2_clauses 76 = .ok (.aload_n 0, 1) := by decide +kernel
theorem dX2_clauses_77 : decode cX2_clauses 77 = .ok (.sipush 159, 3) := by decide +kernel
theorem dX2_clauses_80 : decode cX2_clauses 80 = .ok (.invokevirtual 306, 3) := by decide +kernel
theorem dX2_clauses_83 : decode cX2_clauses 83 = .ok (.aload_n 0, 1) := by decide +kernel
theorem dX2_clauses_84 : decode cX2_clauses 84 = .ok (.bipush 6, 2) := by decide +kernel
theorem dX2_clauses_86 : decode cX2_clauses 86 = .ok (.invokevirtual 306, 3) := by decide +kernel
theorem dX2_clauses_89 : decode cX2_clauses 89 = .ok (.aload_n 0, 1) := by decide +kernel
theorem dX2_clauses_90 : decode cX2_clauses 90 = .ok (.invokevirtual 315, 3) := by decide +kernel
theorem dX2_clauses_93 : decode cX2_clauses 93 = .ok (.ireturn, 1) := by decide +kernel
set_option maxHeartbeats 4000000 in
theorem met_clauses (l : Launch) (adK adV st : Nat → Nat) (D : va_G) (E : Nat → ClassId) (A : Nat → Prop) (h : Nat) (ad : Nat → Nat) (I : Nat → Int) (F : Nat → Int → Int) (hbg : Bd (F 60) 2 (-1) 300) (h49 : 0 ≤ I 49 ∧ I 49 ≤ I 48) (h54 : 0 ≤ I 54 ∧ I 54 ≤ 500) (h59 : 0 ≤ I 59 ∧ I 59 < 300) (h55 : 0 ≤ I 55 ∧ I 55 ≤ 8) (r50 : 0 ≤ I 50 ∧ I 50 ≤ 4) (r52 : -128 ≤ I 52 ∧ I 52 ≤ 10000019) (gl0 : gTxt I F) : ME l yX2_clauses cX2_clauses 1 (some .boolean) (mrm 7) adK adV st D E A h ad [] I F (MQi D E A h ad (fun z I1 F1 => (I 50 = 0 ∧ 1 = z ∧ I = I1 ∧ F = F1) ∨ (I 50 ≠ 0 ∧ (I 50 = 2 ∧ (0 ≤ I 52 ∧ I 52 ≤ 1) ∧ F 60 (I 52) = -1) ∧ 1 = z ∧ va_up (va_up (va_up (va_up (va_up (va_up (va_up (va_up (va_up I 56 (I 52)) 54 ((I 54) + 1)) 54 (((I 54) + 1) + 1)) 54 ((((I 54) + 1) + 1) + 1)) 54 (((((I 54) + 1) + 1) + 1) + 1)) 49 (tT (F 47) (I 48) (I 49))) 50 (tK (F 47) (I 48) (I 49))) 51 (tF (F 47) (I 48) (I 49))) 52 (tV (F 47) (I 48) (I 49)) = I1 ∧ upF (upF (upF (upF (upF F 60 (I 52) (I 59)) 53 (I 54) 0) 53 ((I 54) + 1) 13) 53 (((I 54) + 1) + 1) 159) 53 ((((I 54) + 1) + 1) + 1) 6 = F1) ∨ (I 50 ≠ 0 ∧ ¬ (I 50 = 2 ∧ (0 ≤ I 52 ∧ I 52 ≤ 1) ∧ F 60 (I 52) = -1) ∧ 0 = z ∧ I = I1 ∧ F = F1))) := by
  refine m_startE (by decide) rfl (Nat.le_of_ble_eq_true rfl) ?_
  intro p e R s m args below meth c ls Q hR hQ hC hml hr hlk hM hS hE hl
  have hx := hC.1
  have hb := hC.2.1
  have hown := hC.2.2.1
  have hts := hC.2.2.2.1
  have hl : lv_has ls 1 [(0, .ref h)] := hl
  obtain ⟨i48, a47⟩ := id gl0
  refine lv_aload_n hx hb dX2_clauses_0 rfl (lv_at hl 0 rfl) ?_
  refine mg_50 (v := I 50) hC hM rfl dX2_clauses_1 ?_
  refine r_if_ne (tgt := 9) hx hb dX2_clauses_4 (by decide) (by omega) (fun c1 => ?_) (fun c1 => ?_)
  · refine lv_aload_n hx hb dX2_clauses_9 rfl (lv_at hl 0 rfl) ?_
    refine mg_50 (v := I 50) hC hM rfl dX2_clauses_10 ?_
    refine r_iconst hx hb dX2_clauses_13 ?_
    refine r_icmp_ne (tgt := 42) hx hb dX2_clauses_14 (by decide) (by omega) (by decide) (fun c2 => ?_) (fun c2 => ?_)
    · refine r_iconst hx hb dX2_clauses_42 ?_
      exact m_zret hC hQ hr hlk hM hS (by decide) dX2_clauses_43 (Or.inr (Or.inr ⟨by omega, by omega, rfl, rfl, rfl⟩))
    · refine lv_aload_n hx hb dX2_clauses_17 rfl (lv_at hl 0 rfl) ?_
      refine mg_52 (v := I 52) hC hM rfl dX2_clauses_18 ?_
      refine r_iconst hx hb dX2_clauses_21 ?_
      refine r_iconst hx hb dX2_clauses_22 ?_
      refine s_calli (kX2_X2_in (rest := []) (as := [.int (iI (I 52)), .int (iI 0), .int (iI 1)]) hx hb hml hown hts (met_in l (I 52) 0 1 (by omega) (by decide) (by decide)) ⟨rfl, rfl⟩ hR (by decide) rfl hl.1 rfl (Nat.le_of_ble_eq_true rfl) dX2_clauses_23) ?_
      refine r_ifeqB (tgt := 42) hx hb dX2_clauses_26 (by decide) (fun c3 => ?_) (fun c3 => ?_)
      · refine r_iconst hx hb dX2_clauses_42 ?_
        exact m_zret hC hQ hr hlk hM hS (by decide) dX2_clauses_43 (Or.inr (Or.inr ⟨by omega, by omega, rfl, rfl, rfl⟩))
      · have b60 := hbg (I 52) (by omega) (by omega)
        refine lv_aload_n hx hb dX2_clauses_29 rfl (lv_at hl 0 rfl) ?_
        refine mg_60 hC hM dX2_clauses_30 ?_
        refine lv_aload_n hx hb dX2_clauses_33 rfl (lv_at hl 0 rfl) ?_
        refine mg_52 (v := I 52) hC hM rfl dX2_clauses_34 ?_
        refine ml_60 (v := F 60 (I 52)) hC hM (by omega) rfl dX2_clauses_37 ?_
        refine r_iconst hx hb dX2_clauses_38 ?_
        refine r_icmp_eq (tgt := 44) hx hb dX2_clauses_39 (by decide) (by omega) (by decide) (fun c4 => ?_) (fun c4 => ?_)
        · refine lv_aload_n hx hb dX2_clauses_44 rfl (lv_at hl 0 rfl) ?_
          refine lv_aload_n hx hb dX2_clauses_45 rfl (lv_at hl 0 rfl) ?_
          refine mg_52 (v := I 52) hC hM rfl dX2_clauses_46 ?_
          refine mp_56 hC hM hS dX2_clauses_49 (fun H locs hM hS => ?_)
          refine lv_aload_n hx hb dX2_clauses_52 rfl (lv_at hl 0 rfl) ?_
          refine mg_60 hC hM dX2_clauses_53 ?_
          refine lv_aload_n hx hb dX2_clauses_56 rfl (lv_at hl 0 rfl) ?_
          refine mg_56 (v := I 52) hC hM rfl dX2_clauses_57 ?_
          refine lv_aload_n hx hb dX2_clauses_60 rfl (lv_at hl 0 rfl) ?_
          refine mg_59 (v := I 59) hC hM rfl dX2_clauses_61 ?_
          refine ms_60 (v := I 59) hC hM hS (by omega) dX2_clauses_64 (fun H locs hM hS => ?_)
          refine lv_aload_n hx hb dX2_clauses_65 rfl (lv_at hl 0 rfl) ?_
          refine r_iconst hx hb dX2_clauses_66 ?_
          refine m_callv (kX2_push (rest := []) (as := [.int (iI 0)]) hC hml (met_push l D E A h ad (va_up I 56 (I 52)) (upF F 60 (I 52) (I 59)) 0 (show 0 ≤ (I 54) ∧ (I 54) < 600 by omega)) ⟨rfl, rfl⟩ hR (by decide) hM rfl hl.1 rfl (Nat.le_of_ble_eq_true rfl) dX2_clauses_67) hS (fun I6 F7 H locs hp8 hM hS => ?_)
          obtain ⟨rfl, rfl⟩ := hp8
          refine lv_aload_n hx hb dX2_clauses_70 rfl (lv_at hl 0 rfl) ?_
          refine r_bipush hx hb dX2_clauses_71 (by decide) ?_
          refine m_callv (kX2_push (rest := []) (as := [.int (iI 13)]) hC hml (met_push l D E A h ad (va_up (va_up I 56 (I 52)) 54 ((I 54) + 1)) (upF (upF F 60 (I 52) (I 59)) 53 (I 54) 0) 13 (show 0 ≤ ((I 54) + 1) ∧ ((I 54) + 1) < 600 by omega)) ⟨rfl, rfl⟩ hR (by decide) hM rfl hl.1 rfl (Nat.le_of_ble_eq_true rfl) dX2_clauses_73) hS (fun I10 F11 H locs hp12 hM hS => ?_)
          obtain ⟨rfl, rfl⟩ := hp12
          refine lv_aload_n hx hb dX2_clauses_76 rfl (lv_at hl 0 rfl) ?_
          refine r_sipush hx hb dX2_clauses_77 (by decide) ?_
          refine m_callv (kX2_push (rest := []) (as := [.int (iI 159)]) hC hml (met_push l D E A h ad (va_up (va_up (va_up I 56 (I 52)) 54 ((I 54) + 1)) 54 (((I 54) + 1) + 1)) (upF (upF (upF F 60 (I 52) (I 59)) 53 (I 54) 0) 53 ((I 54) + 1) 13) 159 (show 0 ≤ (((I 54) + 1) + 1) ∧ (((I 54) + 1) + 1) < 600 by omega)) ⟨rfl, rfl⟩ hR (by decide) hM rfl hl.1 rfl (Nat.le_of_ble_eq_true rfl) dX2_clauses_80) hS (fun I14 F15 H locs hp16 hM hS => ?_)
          obtain ⟨rfl, rfl⟩ := hp16
          refine lv_aload_n hx hb dX2_clauses_83 rfl (lv_at hl 0 rfl) ?_
          refine r_bipush hx hb dX2_clauses_84 (by decide) ?_
          refine m_callv (kX2_push (rest := []) (as := [.int (iI 6)]) hC hml (met_push l D E A h ad (va_up (va_up (va_up (va_up I 56 (I 52)) 54 ((I 54) + 1)) 54 (((I 54) + 1) + 1)) 54 ((((I 54) + 1) + 1) + 1)) (upF (upF (upF (upF F 60 (I 52) (I 59)) 53 (I 54) 0) 53 ((I 54) + 1) 13) 53 (((I 54) + 1) + 1) 159) 6 (show 0 ≤ ((((I 54) + 1) + 1) + 1) ∧ ((((I 54) + 1) + 1) + 1) < 600 by omega)) ⟨rfl, rfl⟩ hR (by decide) hM rfl hl.1 rfl (Nat.le_of_ble_eq_true rfl) dX2_clauses_86) hS (fun I18 F19 H locs hp20 hM hS => ?_)
          obtain ⟨rfl, rfl⟩ := hp20
          refine lv_aload_n hx hb dX2_clauses_89 rfl (lv_at hl 0 rfl) ?_
          refine m_calli (m_runE (n := 0) (rest := []) (as := []) hC hml (met_takes l adK adV st D E A h ad (va_up (va_up (va_up (va_up (va_up I 56 (I 52)) 54 ((I 54) + 1)) 54 (((I 54) + 1) + 1)) 54 ((((I 54) + 1) + 1) + 1)) 54 (((((I 54) + 1) + 1) + 1) + 1)) (upF (upF (upF (upF (upF F 60 (I 52) (I 59)) 53 (I 54) 0) 53 ((I 54) + 1) 13) 53 (((I 54) + 1) + 1) 159) 53 ((((I 54) + 1) + 1) + 1) 6) (show 0 ≤ (I 49) ∧ (I 49) ≤ (I 48) by omega) gl0) q1421 q1423 qs53 q73 q1424 (by decide +kernel) ⟨rfl, rfl⟩ hR (by decide) ⟨Nat.zero_le _, Nat.zero_le _⟩ hM hE hS rfl hl.1 rfl (Nat.le_of_ble_eq_true rfl) dX2_clauses_90) hS (fun z21 I22 F23 H locs hp24 hM hS => ?_)
          obtain ⟨rfl, rfl, rfl⟩ := hp24
          refine W.eq (g2 := F0 m 93 ls [.int (iI 1)]) rfl ?_
          exact m_zret hC hQ hr hlk hM hS (by decide) dX2_clauses_93 (Or.inr (Or.inl ⟨by omega, by omega, rfl, rfl, rfl⟩))
        · refine r_iconst hx hb dX2_clauses_42 ?_
          exact m_zret hC hQ hr hlk hM hS (by decide) dX2_clauses_43 (Or.inr (Or.inr ⟨by omega, by omega, rfl, rfl, rfl⟩))
  · refine r_iconst hx hb dX2_clauses_7 ?_
    exact m_zret hC hQ hr hlk hM hS (by decide) dX2_clauses_8 (Or.inl ⟨by omega, rfl, rfl, rfl⟩)
theorem dX2_factor_0 : decode cX2_factor 0 = .ok (.aload_n 0, 1) := by decide +kernel
theorem dX2_factor_1 : decode cX2_factor 1 = .ok (.getfield 282, 3) := by decide +kernel
theorem dX2_factor_4 : decode cX2_factor 4 = .ok (.iconst 1, 1) := by decide +kernel
theorem dX2_factor_5 : decode cX2_factor 5 = .ok (.if_icmp .ne 29, 3) := by decide +kernel
theorem dX2_factor_8 : decode cX2_factor 8 = .ok (.aload_n 0, 1) := by decide +kernel
theorem dX2_factor_9 : decode cX2_factor 9 = .ok (.getfield 279, 3) := by decide +kernel
theorem dX2_factor_12 : decode cX2_factor 12 = .ok (.sipush 9999, 3) := by decide +kernel
theorem dX2_factor_15 : decode cX2_factor 15 = .ok (.if_icmp .le 5, 3) := by decide +kernel
theorem dX2_factor_18 : decode cX2_factor 18 = .ok (.iconst 0, 1) := by decide +kernel
theorem dX2_factor_19 : decode cX2_factor 19 = .ok (.ireturn, 1) := by decide +kernel
theorem dX2_factor_20 : decode cX2_factor 20 = .ok (.aload_n 0, 1) := by decide +kernel
theorem dX2_factor_21 : decode cX2_factor 21 = .ok (.iconst 0, 1) := by decide +kernel
theorem dX2_factor_22 : decode cX2_factor 22 = .ok (.aload_n 0, 1) := by decide +kernel
theorem dX2_factor_23 : decode cX2_factor 23 = .ok (.getfield 279, 3) := by decide +kernel
theorem dX2_factor_26 : decode cX2_factor 26 = .ok (.invokevirtual 309, 3) := by decide +kernel
theorem dX2_factor_29 : decode cX2_factor 29 = .ok (.aload_n 0, 1) := by decide +kernel
theorem dX2_factor_30 : decode cX2_factor 30 = .ok (.invokevirtual 315, 3) := by decide +kernel
theorem dX2_factor_33 : decode cX2_factor 33 = .ok (.ireturn, 1) := by decide +kernel
theorem dX2_factor_34 : decode cX2_factor 34 = .ok (.aload_n 0, 1) := by decide +kernel
theorem dX2_factor_35 : decode cX2_factor 35 = .ok (.getfield 282, 3) := by decide +kernel
theorem dX2_factor_38 : decode cX2_factor 38 = .ok (.iconst 2, 1) := by decide +kernel
theorem dX2_factor_39 : decode cX2_factor 39 = .ok (.if_icmp .ne 32, 3) := by decide +kernel
theorem dX2_factor_42 : decode cX2_factor 42 = .ok (.aload_n 0, 1) := by decide +kernel
theorem dX2_factor_43 : decode cX2_factor 43 = .ok (.getfield 279, 3) := by decide +kernel
theorem dX2_factor_46 : decode cX2_factor 46 = .ok (.iconst 2, 1) := by decide +kernel
theorem dX2_factor_47 : decode cX2_factor 47 = .ok (.bipush 8, 2) := by decide +kernel
theorem dX2_factor_49 : decode cX2_factor 49 = .ok (.invokestatic 173, 3) := by decide +kernel
theorem dX2_factor_52 : decode cX2_factor 52 = .ok (.ifCond .eq 19, 3) := by decide +kernel
theorem dX2_factor_55 : decode cX2_factor 55 = .ok (.aload_n 0, 1) := by decide +kernel
theorem dX2_factor_56 : decode cX2_factor 56 = .ok (.iconst 1, 1) := by decide +kernel
theorem dX2_factor_57 : decode cX2_factor 57 = .ok (.aload_n 0, 1) := by decide +kernel
theorem dX2_factor_58 : decode cX2_factor 58 = .ok (.getfield 279, 3) := by decide +kernel
theorem dX2_factor_61 : decode cX2_factor 61 = .ok (.iconst 2, 1) := by decide +kernel
theorem dX2_factor_62 : decode cX2_factor 62 = .ok (.isub, 1) := by decide +kernel
theorem dX2_factor_63 : decode cX2_factor 63 = .ok (.invokevirtual 309, 3) := by decide +kernel
theorem dX2_factor_66 : decode cX2_factor 66 = .ok (.aload_n 0, 1) := by decide +kernel
theorem dX2_factor_67 : decode cX2_factor 67 = .ok (.invokevirtual 315, 3) := by decide +kernel
theorem dX2_factor_70 : decode cX2_factor 70 = .ok (.ireturn, 1) := by decide +kernel
theorem dX2_factor_71 : decode cX2_factor 71 = .ok (.aload_n 0, 1) := by decide +kernel
theorem dX2_factor_72 : decode cX2_factor 72 = .ok (.bipush 40, 2) := by decide +kernel
theorem dX2_factor_74 : decode cX2_factor 74 = .ok (.invokevirtual 312, 3) := by decide +kernel
theorem dX2_factor_77 : decode cX2_factor 77 = .ok (.ifCond .eq 10, 3) := by decide +kernel
theorem dX2_factor_80 : decode cX2_factor 80 = .ok (.aload_n 0, 1) := by decide +kernel
theorem dX2_factor_81 : decode cX2_factor 81 = .ok (.invokevirtual 349, 3) := by decide +kernel
theorem dX2_factor_84 : decode cX2_factor 84 = .ok (.ifCond .ne 5, 3) := by decide +kernel
theorem dX2_factor_87 : decode cX2_factor 87 = .ok (.iconst 0, 1) := by decide +kernel
theorem dX2_factor_88 : decode cX2_factor 88 = .ok (.ireturn, 1) := by decide +kernel
theorem dX2_factor_89 : decode cX2_factor 89 = .ok (.aload_n 0, 1) := by decide +kernel
theorem dX2_factor_90 : decode cX2_factor 90 = .ok (.sipush 141, 3) := by decide +kernel
theorem dX2_factor_93 : decode cX2_factor 93 = .ok (.invokevirtual 306, 3) := by decide +kernel
theorem dX2_factor_96 : decode cX2_factor 96 = .ok (.aload_n 0, 1) := by decide +kernel
theorem dX2_factor_97 : decode cX2_factor 97 = .ok (.iconst 1, 1) := by decide +kernel
theorem dX2_factor_98 : decode cX2_factor 98 = .ok (.invokevirtual 306, 3) := by decide +kernel
theorem dX2_factor_101 : decode cX2_factor 101 = .ok (.aload_n 0, 1) := by decide +kernel
theorem dX2_factor_102 : decode cX2_factor 102 = .ok (.invokevirtual 315, 3) := by decide +kernel
theorem dX2_factor_105 : decode cX2_factor 105 = .ok (.ireturn, 1) := by decide +kernel
set_option maxHeartbeats 4000000 in
theorem met_factor (l : Launch) (adK adV st : Nat → Nat) (D : va_G) (E : Nat → ClassId) (A : Nat → Prop) (h : Nat) (ad : Nat → Nat) (I : Nat → Int) (F : Nat → Int → Int) (h49 : 0 ≤ I 49 ∧ I 49 ≤ I 48) (h54 : 0 ≤ I 54 ∧ I 54 ≤ 500) (h59 : 0 ≤ I 59 ∧ I 59 < 300) (h55 : 0 ≤ I 55 ∧ I 55 ≤ 8) (r50 : 0 ≤ I 50 ∧ I 50 ≤ 4) (r52 : -128 ≤ I 52 ∧ I 52 ≤ 10000019) (gl0 : gTxt I F) : ME l yX2_factor cX2_factor 1 (some .boolean) (mrm 7) adK adV st D E A h ad [] I F (MQi D E A h ad (fun z I1 F1 => ((I 50 = 1) ∧ I 52 ≤ 9999 ∧ 1 = z ∧ va_up (va_up (va_up (va_up (va_up I 59 ((I 59) + 1)) 49 (tT (F 47) (I 48) (I 49))) 50 (tK (F 47) (I 48) (I 49))) 51 (tF (F 47) (I 48) (I 49))) 52 (tV (F 47) (I 48) (I 49)) = I1 ∧ upF (upF F 57 (I 59) 0) 58 (I 59) (I 52) = F1) ∨ ((I 50 = 2 ∧ (2 ≤ I 52 ∧ I 52 ≤ 8)) ∧ 1 = z ∧ va_up (va_up (va_up (va_up (va_up I 59 ((I 59) + 1)) 49 (tT (F 47) (I 48) (I 49))) 50 (tK (F 47) (I 48) (I 49))) 51 (tF (F 47) (I 48) (I 49))) 52 (tV (F 47) (I 48) (I 49)) = I1 ∧ upF (upF F 57 (I 59) 1) 58 (I 59) (I 52 - 2) = F1) ∨ ((I 50 = 3 ∧ I 52 = 40 ∧ I 55 ≠ 8) ∧ 1 = z ∧ va_up (va_up (va_up (va_up (va_up (va_up (va_up (va_up I 55 ((I 55) + 1)) 54 ((I 54) + 1)) 54 (((I 54) + 1) + 1)) 54 ((((I 54) + 1) + 1) + 1)) 49 (tT (F 47) (I 48) (I 49))) 50 (tK (F 47) (I 48) (I 49))) 51 (tF (F 47) (I 48) (I 49))) 52 (tV (F 47) (I 48) (I 49)) = I1 ∧ upF (upF (upF F 53 (I 54) 12) 53 ((I 54) + 1) 141) 53 (((I 54) + 1) + 1) 1 = F1) ∨ (¬ (I 50 = 1 ∧ I 52 ≤ 9999) ∧ ¬ (I 50 = 2 ∧ (2 ≤ I 52 ∧ I 52 ≤ 8)) ∧ ¬ (I 50 = 3 ∧ I 52 = 40 ∧ I 55 ≠ 8) ∧ 0 = z ∧ I = I1 ∧ F = F1))) := by
  refine m_startE (by decide) rfl (Nat.le_of_ble_eq_true rfl) ?_
  intro p e R s m args below meth c ls Q hR hQ hC hml hr hlk hM hS hE hl
  have hx := hC.1
  have hb := hC.2.1
  have hown := hC.2.2.1
  have hts := hC.2.2.2.1
  have hl : lv_has ls 1 [(0, .ref h)] := hl
  obtain ⟨i48, a47⟩ := id gl0
  refine lv_aload_n hx hb dX2_factor_0 rfl (lv_at hl 0 rfl) ?_
  refine mg_50 (v := I 50) hC hM rfl dX2_factor_1 ?_
  refine r_iconst hx hb dX2_factor_4 ?_
  refine r_icmp_ne (tgt := 34) hx hb dX2_factor_5 (by decide) (by omega) (by decide) (fun c1 => ?_) (fun c1 => ?_)
  · refine lv_aload_n hx hb dX2_factor_34 rfl (lv_at hl 0 rfl) ?_
    refine mg_50 (v := I 50) hC hM rfl dX2_factor_35 ?_
    refine r_iconst hx hb dX2_factor_38 ?_
    refine r_icmp_ne (tgt := 71) hx hb dX2_factor_39 (by decide) (by omega) (by decide) (fun c2 => ?_) (fun c2 => ?_)
    · refine lv_aload_n hx hb dX2_factor_71 rfl (lv_at hl 0 rfl) ?_
      refine r_bipush hx hb dX2_factor_72 (by decide) ?_
      refine m_calli (kX2_isSign (rest := []) (as := [.int (iI 40)]) hC hml (met_isSign l D E A h ad I F 40 (by decide) (show R32 (I 50) by omega) (show R32 (I 52) by omega)) ⟨rfl, rfl⟩ hR (by decide) hM rfl hl.1 rfl (Nat.le_of_ble_eq_true rfl) dX2_factor_74) hS (fun z3 I4 F5 H locs hp6 hM hS => ?_)
      obtain ⟨rfl, rfl, rfl⟩ := hp6
      refine r_ifeqB (tgt := 87) hx hb dX2_factor_77 (by decide) (fun c7 => ?_) (fun c7 => ?_)
      · refine r_iconst hx hb dX2_factor_87 ?_
        exact m_zret hC hQ hr hlk hM hS (by decide) dX2_factor_88 (Or.inr (Or.inr (Or.inr ⟨by omega, by omega, by omega, rfl, rfl, rfl⟩)))
      · refine lv_aload_n hx hb dX2_factor_80 rfl (lv_at hl 0 rfl) ?_
        refine m_calli (kX2_deeper (rest := []) (as := []) hC hml (met_deeper l D E A h ad I F (show 0 ≤ (I 54) ∧ (I 54) ≤ 500 by omega) (show 0 ≤ (I 55) ∧ (I 55) ≤ 8 by omega)) ⟨rfl, rfl⟩ hR (by decide) hM rfl hl.1 rfl (Nat.le_of_ble_eq_true rfl) dX2_factor_81) hS (fun z8 I9 F10 H locs hp11 hM hS => ?_)
        rcases hp11 with ⟨hd8, rfl, rfl, rfl⟩ | ⟨hd8, rfl, rfl, rfl⟩
        · refine W.eq (g2 := F0 m 84 ls [.int (iI 0)]) rfl ?_
          refine r_if_ne (tgt := 89) hx hb dX2_factor_84 (by decide) (by decide) (fun c12 => absurd c12 (by decide)) (fun c12 => ?_)
          refine r_iconst hx hb dX2_factor_87 ?_
          exact m_zret hC hQ hr hlk hM hS (by decide) dX2_factor_88 (Or.inr (Or.inr (Or.inr ⟨by omega, by omega, by omega, rfl, rfl, rfl⟩)))
        · refine W.eq (g2 := F0 m 84 ls [.int (iI 1)]) rfl ?_
          refine r_if_ne (tgt := 89) hx hb dX2_factor_84 (by decide) (by decide) (fun c13 => ?_) (fun c13 => absurd c13 (by decide))
          refine lv_aload_n hx hb dX2_factor_89 rfl (lv_at hl 0 rfl) ?_
          refine r_sipush hx hb dX2_factor_90 (by decide) ?_
          refine m_callv (kX2_push (rest := []) (as := [.int (iI 141)]) hC hml (met_push l D E A h ad (va_up (va_up I 55 ((I 55) + 1)) 54 ((I 54) + 1)) (upF F 53 (I 54) 12) 141 (show 0 ≤ ((I 54) + 1) ∧ ((I 54) + 1) < 600 by omega)) ⟨rfl, rfl⟩ hR (by decide) hM rfl hl.1 rfl (Nat.le_of_ble_eq_true rfl) dX2_factor_93) hS (fun I15 F16 H locs hp17 hM hS => ?_)
          obtain ⟨rfl, rfl⟩ := hp17
          refine lv_aload_n hx hb dX2_factor_96 rfl (lv_at hl 0 rfl) ?_
          refine r_iconst hx hb dX2_factor_97 ?_
          refine m_callv (kX2_push (rest := []) (as := [.int (iI 1)]) hC hml (met_push l D E A h ad (va_up (va_up (va_up I 55 ((I 55) + 1)) 54 ((I 54) + 1)) 54 (((I 54) + 1) + 1)) (upF (upF F 53 (I 54) 12) 53 ((I 54) + 1) 141) 1 (show 0 ≤ (((I 54) + 1) + 1) ∧ (((I 54) + 1) + 1) < 600 by omega)) ⟨rfl, rfl⟩ hR (by decide) hM rfl hl.1 rfl (Nat.le_of_ble_eq_true rfl) dX2_factor_98) hS (fun I19 F20 H locs hp21 hM hS => ?_)
          obtain ⟨rfl, rfl⟩ := hp21
          refine lv_aload_n hx hb dX2_factor_101 rfl (lv_at hl 0 rfl) ?_
          refine m_calli (m_runE (n := 0) (rest := []) (as := []) hC hml (met_takes l adK adV st D E A h ad (va_up (va_up (va_up (va_up I 55 ((I 55) + 1)) 54 ((I 54) + 1)) 54 (((I 54) + 1) + 1)) 54 ((((I 54) + 1) + 1) + 1)) (upF (upF (upF F 53 (I 54) 12) 53 ((I 54) + 1) 141) 53 (((I 54) + 1) + 1) 1) (show 0 ≤ (I 49) ∧ (I 49) ≤ (I 48) by omega) gl0) q1421 q1423 qs53 q73 q1424 (by decide +kernel) ⟨rfl, rfl⟩ hR (by decide) ⟨Nat.zero_le _, Nat.zero_le _⟩ hM hE hS rfl hl.1 rfl (Nat.le_of_ble_eq_true rfl) dX2_factor_102) hS (fun z22 I23 F24 H locs hp25 hM hS => ?_)
          obtain ⟨rfl, rfl, rfl⟩ := hp25
          refine W.eq (g2 := F0 m 105 ls [.int (iI 1)]) rfl ?_
          exact m_zret hC hQ hr hlk hM hS (by decide) dX2_factor_105 (Or.inr (Or.inr (Or.inl ⟨by omega, rfl, rfl, rfl⟩)))
    · refine lv_aload_n hx hb dX2_factor_42 rfl (lv_at hl 0 rfl) ?_
      refine mg_52 (v := I 52) hC hM rfl dX2_factor_43 ?_
      refine r_iconst hx hb dX2_factor_46 ?_
      refine r_bipush hx hb dX2_factor_47 (by decide) ?_
      refine s_calli (kX2_X2_in (rest := []) (as := [.int (iI (I 52)), .int (iI 2), .int (iI 8)]) hx hb hml hown hts (met_in l (I 52) 2 8 (by omega) (by decide) (by decide)) ⟨rfl, rfl⟩ hR (by decide) rfl hl.1 rfl (Nat.le_of_ble_eq_true rfl) dX2_factor_49) ?_
      refine r_ifeqB (tgt := 71) hx hb dX2_factor_52 (by decide) (fun c26 => ?_) (fun c26 => ?_)
      · refine lv_aload_n hx hb dX2_factor_71 rfl (lv_at hl 0 rfl) ?_
        refine r_bipush hx hb dX2_factor_72 (by decide) ?_
        refine m_calli (kX2_isSign (rest := []) (as := [.int (iI 40)]) hC hml (met_isSign l D E A h ad I F 40 (by decide) (show R32 (I 50) by omega) (show R32 (I 52) by omega)) ⟨rfl, rfl⟩ hR (by decide) hM rfl hl.1 rfl (Nat.le_of_ble_eq_true rfl) dX2_factor_74) hS (fun z27 I28 F29 H locs hp30 hM hS => ?_)
        obtain ⟨rfl, rfl, rfl⟩ := hp30
        refine r_ifeqB (tgt := 87) hx hb dX2_factor_77 (by decide) (fun c31 => ?_) (fun c31 => ?_)
        · refine r_iconst hx hb dX2_factor_87 ?_
          exact m_zret hC hQ hr hlk hM hS (by decide) dX2_factor_88 (Or.inr (Or.inr (Or.inr ⟨by omega, by omega, by omega, rfl, rfl, rfl⟩)))
        · refine lv_aload_n hx hb dX2_factor_80 rfl (lv_at hl 0 rfl) ?_
          refine m_calli (kX2_deeper (rest := []) (as := []) hC hml (met_deeper l D E A h ad I F (show 0 ≤ (I 54) ∧ (I 54) ≤ 500 by omega) (show 0 ≤ (I 55) ∧ (I 55) ≤ 8 by omega)) ⟨rfl, rfl⟩ hR (by decide) hM rfl hl.1 rfl (Nat.le_of_ble_eq_true rfl) dX2_factor_81) hS (fun z32 I33 F34 H locs hp35 hM hS => ?_)
          rcases hp35 with ⟨hd8, rfl, rfl, rfl⟩ | ⟨hd8, rfl, rfl, rfl⟩
          · refine W.eq (g2 := F0 m 84 ls [.int (iI 0)]) rfl ?_
            refine r_if_ne (tgt := 89) hx hb dX2_factor_84 (by decide) (by decide) (fun c36 => absurd c36 (by decide)) (fun c36 => ?_)
            refine r_iconst hx hb dX2_factor_87 ?_
            exact m_zret hC hQ hr hlk hM hS (by decide) dX2_factor_88 (Or.inr (Or.inr (Or.inr ⟨by omega, by omega, by omega, rfl, rfl, rfl⟩)))
          · refine W.eq (g2 := F0 m 84 ls [.int (iI 1)]) rfl ?_
            refine r_if_ne (tgt := 89) hx hb dX2_factor_84 (by decide) (by decide) (fun c37 => ?_) (fun c37 => absurd c37 (by decide))
            refine lv_aload_n hx hb dX2_factor_89 rfl (lv_at hl 0 rfl) ?_
            refine r_sipush hx hb dX2_factor_90 (by decide) ?_
            refine m_callv (kX2_push (rest := []) (as := [.int (iI 141)]) hC hml (met_push l D E A h ad (va_up (va_up I 55 ((I 55) + 1)) 54 ((I 54) + 1)) (upF F 53 (I 54) 12) 141 (show 0 ≤ ((I 54) + 1) ∧ ((I 54) + 1) < 600 by omega)) ⟨rfl, rfl⟩ hR (by decide) hM rfl hl.1 rfl (Nat.le_of_ble_eq_true rfl) dX2_factor_93) hS (fun I39 F40 H locs hp41 hM hS => ?_)
            obtain ⟨rfl, rfl⟩ := hp41
            refine lv_aload_n hx hb dX2_factor_96 rfl (lv_at hl 0 rfl) ?_
            refine r_iconst hx hb dX2_factor_97 ?_
            refine m_callv (kX2_push (rest := []) (as := [.int (iI 1)]) hC hml (met_push l D E A h ad (va_up (va_up (va_up I 55 ((I 55) + 1)) 54 ((I 54) + 1)) 54 (((I 54) + 1) + 1)) (upF (upF F 53 (I 54) 12) 53 ((I 54) + 1) 141) 1 (show 0 ≤ (((I 54) + 1) + 1) ∧ (((I 54) + 1) + 1) < 600 by omega)) ⟨rfl, rfl⟩ hR (by decide) hM rfl hl.1 rfl (Nat.le_of_ble_eq_true rfl) dX2_factor_98) hS (fun I43 F44 H locs hp45 hM hS => ?_)
            obtain ⟨rfl, rfl⟩ := hp45
            refine lv_aload_n hx hb dX2_factor_101 rfl (lv_at hl 0 rfl) ?_
            refine m_calli (m_runE (n := 0) (rest := []) (as := []) hC hml (met_takes l adK adV st D E A h ad (va_up (va_up (va_up (va_up I 55 ((I 55) + 1)) 54 ((I 54) + 1)) 54 (((I 54) + 1) + 1)) 54 ((((I 54) + 1) + 1) + 1)) (upF (upF (upF F 53 (I 54) 12) 53 ((I 54) + 1) 141) 53 (((I 54) + 1) + 1) 1) (show 0 ≤ (I 49) ∧ (I 49) ≤ (I 48) by omega) gl0) q1421 q1423 qs53 q73 q1424 (by decide +kernel) ⟨rfl, rfl⟩ hR (by decide) ⟨Nat.zero_le _, Nat.zero_le _⟩ hM hE hS rfl hl.1 rfl (Nat.le_of_ble_eq_true rfl) dX2_factor_102) hS (fun z46 I47 F48 H locs hp49 hM hS => ?_)
            obtain ⟨rfl, rfl, rfl⟩ := hp49
            refine W.eq (g2 := F0 m 105 ls [.int (iI 1)]) rfl ?_
            exact m_zret hC hQ hr hlk hM hS (by decide) dX2_factor_105 (Or.inr (Or.inr (Or.inl ⟨by omega, rfl, rfl, rfl⟩)))
      · refine lv_aload_n hx hb dX2_factor_55 rfl (lv_at hl 0 rfl) ?_
        refine r_iconst hx hb dX2_factor_56 ?_
        refine lv_aload_n hx hb dX2_factor_57 rfl (lv_at hl 0 rfl) ?_
        refine mg_52 (v := I 52) hC hM rfl dX2_factor_58 ?_
        refine r_iconst hx hb dX2_factor_61 ?_
        refine r_isub hx hb dX2_factor_62 ?_
        refine m_callv (kX2_emits (rest := []) (as := [.int (iI 1), .int (iI ((I 52) - 2))]) hC hml (met_emits l D E A h ad I F 1 ((I 52) - 2) (show 0 ≤ (I 59) ∧ (I 59) < 300 by omega)) ⟨rfl, rfl⟩ hR (by decide) hM rfl hl.1 rfl (Nat.le_of_ble_eq_true rfl) dX2_factor_63) hS (fun I51 F52 H locs hp53 hM hS => ?_)
        obtain ⟨rfl, rfl⟩ := hp53
        refine lv_aload_n hx hb dX2_factor_66 rfl (lv_at hl 0 rfl) ?_
        refine m_calli (m_runE (n := 0) (rest := []) (as := []) hC hml (met_takes l adK adV st D E A h ad (va_up I 59 ((I 59) + 1)) (upF (upF F 57 (I 59) 1) 58 (I 59) ((I 52) - 2)) (show 0 ≤ (I 49) ∧ (I 49) ≤ (I 48) by omega) gl0) q1421 q1423 qs53 q73 q1424 (by decide +kernel) ⟨rfl, rfl⟩ hR (by decide) ⟨Nat.zero_le _, Nat.zero_le _⟩ hM hE hS rfl hl.1 rfl (Nat.le_of_ble_eq_true rfl) dX2_factor_67) hS (fun z54 I55 F56 H locs hp57 hM hS => ?_)
        obtain ⟨rfl, rfl, rfl⟩ := hp57
        refine W.eq (g2 := F0 m 70 ls [.int (iI 1)]) rfl ?_
        exact m_zret hC hQ hr hlk hM hS (by decide) dX2_factor_70 (Or.inr (Or.inl ⟨by omega, rfl, rfl, rfl⟩))
  · refine lv_aload_n hx hb dX2_factor_8 rfl (lv_at hl 0 rfl) ?_
    refine mg_52 (v := I 52) hC hM rfl dX2_factor_9 ?_
    refine r_sipush hx hb dX2_factor_12 (by decide) ?_
    refine r_icmp_le (tgt := 20) hx hb dX2_factor_15 (by decide) (by omega) (by decide) (fun c58 => ?_) (fun c58 => ?_)
    · refine lv_aload_n hx hb dX2_factor_20 rfl (lv_at hl 0 rfl) ?_
      refine r_iconst hx hb dX2_factor_21 ?_
      refine lv_aload_n hx hb dX2_factor_22 rfl (lv_at hl 0 rfl) ?_
      refine mg_52 (v := I 52) hC hM rfl dX2_factor_23 ?_
      refine m_callv (kX2_emits (rest := []) (as := [.int (iI 0), .int (iI (I 52))]) hC hml (met_emits l D E A h ad I F 0 (I 52) (show 0 ≤ (I 59) ∧ (I 59) < 300 by omega)) ⟨rfl, rfl⟩ hR (by decide) hM rfl hl.1 rfl (Nat.le_of_ble_eq_true rfl) dX2_factor_26) hS (fun I60 F61 H locs hp62 hM hS => ?_)
      obtain ⟨rfl, rfl⟩ := hp62
      refine lv_aload_n hx hb dX2_factor_29 rfl (lv_at hl 0 rfl) ?_
      refine m_calli (m_runE (n := 0) (rest := []) (as := []) hC hml (met_takes l adK adV st D E A h ad (va_up I 59 ((I 59) + 1)) (upF (upF F 57 (I 59) 0) 58 (I 59) (I 52)) (show 0 ≤ (I 49) ∧ (I 49) ≤ (I 48) by omega) gl0) q1421 q1423 qs53 q73 q1424 (by decide +kernel) ⟨rfl, rfl⟩ hR (by decide) ⟨Nat.zero_le _, Nat.zero_le _⟩ hM hE hS rfl hl.1 rfl (Nat.le_of_ble_eq_true rfl) dX2_factor_30) hS (fun z63 I64 F65 H locs hp66 hM hS => ?_)
      obtain ⟨rfl, rfl, rfl⟩ := hp66
      refine W.eq (g2 := F0 m 33 ls [.int (iI 1)]) rfl ?_
      exact m_zret hC hQ hr hlk hM hS (by decide) dX2_factor_33 (Or.inl ⟨by omega, by omega, rfl, rfl, rfl⟩)
    · refine r_iconst hx hb dX2_factor_18 ?_
      exact m_zret hC hQ hr hlk hM hS (by decide) dX2_factor_19 (Or.inr (Or.inr (Or.inr ⟨by omega, by omega, by omega, rfl, rfl, rfl⟩)))
theorem dX2_holdsOne_0 : decode cX2_holdsOne 0 = .ok (.aload_n 0, 1) := by decide +kernel
theorem dX2_holdsOne_1 : decode cX2_holdsOne 1 = .ok (.bipush 11, 2) := by decide +kernel
theorem dX2_holdsOne_3 : decode cX2_holdsOne 3 = .ok (.invokevirtual 346, 3) := by decide +kernel
theorem dX2_holdsOne_6 : decode cX2_holdsOne 6 = .ok (.istore_n 1, 1) := by decide +kernel
theorem dX2_holdsOne_7 : decode cX2_holdsOne 7 = .ok (.iload_n 1, 1) := by decide +kernel
theorem dX2_holdsOne_8 : decode cX2_holdsOne 8 = .ok (.ifCond .ne 20, 3) := by decide +kernel
theorem dX2_holdsOne_11 : decode cX2_holdsOne 11 = .ok (.aload_n 0, 1) := by decide +kernel
theorem dX2_holdsOne_12 : decode cX2_holdsOne 12 = .ok (.bipush 91, 2) := by decide +kernel
theorem dX2_holdsOne_14 : decode cX2_holdsOne 14 = .ok (.invokevirtual 312, 3) := by decide +kernel
theorem dX2_holdsOne_17 : decode cX2_holdsOne 17 = .ok (.ifCond .ne 11, 3) := by decide +kernel
theorem dX2_holdsOne_20 : decode cX2_holdsOne 20 = .ok (.aload_n 0, 1) := by decide +kernel
theorem dX2_holdsOne_21 : decode cX2_holdsOne 21 = .ok (.bipush 11, 2) := by decide +kernel
theorem dX2_holdsOne_23 : decode cX2_holdsOne 23 = .ok (.iconst 1, 1) := by decide +kernel
theorem dX2_holdsOne_24 : decode cX2_holdsOne 24 = .ok (.invokevirtual 322, 3) := by decide +kernel
theorem dX2_holdsOne_27 : decode cX2_holdsOne 27 = .ok (.ireturn, 1) := by decide +kernel
theorem dX2_holdsOne_28 : decode cX2_holdsOne 28 = .ok (.aload_n 0, 1) := by decide +kernel
theorem dX2_holdsOne_29 : decode cX2_holdsOne 29 = .ok (.invokevirtual 349, 3) := by decide +kernel
theorem dX2_holdsOne_32 : decode cX2_holdsOne 32 = .ok (.ifCond .ne 5, 3) := by decide +kernel
theorem dX2_holdsOne_35 : decode cX2_holdsOne 35 = .ok (.iconst 0, 1) := by decide +kernel
theorem dX2_holdsOne_36 : decode cX2_holdsOne 36 = .ok (.ireturn, 1) := by decide +kernel
theorem dX2_holdsOne_37 : decode cX2_holdsOne 37 = .ok (.aload_n 0, 1) := by decide +kernel
theorem dX2_holdsOne_38 : decode cX2_holdsOne 38 = .ok (.iload_n 1, 1) := by decide +kernel
theorem dX2_holdsOne_39 : decode cX2_holdsOne 39 = .ok (.ifCond .eq 9, 3) := by decide +kernel
theorem dX2_holdsOne_42 : decode cX2_holdsOne 42 = .ok (.sipush 1011, 3) := by decide +kernel
theorem dX2_holdsOne_45 : decode cX2_holdsOne 45 = .ok (.goto 6, 3) := by decide +kernel
theorem dX2_holdsOne_48 : decode cX2_holdsOne 48 = .ok (.sipush 193, 3) := by decide +kernel
theorem dX2_holdsOne_51 : decode cX2_holdsOne 51 = .ok (.invokevirtual 306, 3) := by decide +kernel
theorem dX2_holdsOne_54 : decode cX2_holdsOne 54 = .ok (.aload_n 0, 1) := by decide +kernel
theorem dX2_holdsOne_55 : decode cX2_holdsOne 55 = .ok (.iload_n 1, 1) := by decide +kernel
theorem dX2_holdsOne_56 : decode cX2_holdsOne 56 = .ok (.ifCond .eq 8, 3) := by decide +kernel
theorem dX2_holdsOne_59 : decode cX2_holdsOne 59 = .ok (.bipush 10, 2) := by decide +kernel
theorem dX2_holdsOne_61 : decode cX2_holdsOne 61 = .ok (.goto 5, 3) := by decide +kernel
theorem dX2_holdsOne_64 : decode cX2_holdsOne 64 = .ok (.bipush 6, 2) := by decide +kernel
theorem dX2_holdsOne_66 : decode cX2_holdsOne 66 = .ok (.invokevirtual 306, 3) := by decide +kernel
theorem dX2_holdsOne_69 : decode cX2_holdsOne 69 = .ok (.aload_n 0, 1) := by decide +kernel
theorem dX2_holdsOne_70 : decode cX2_holdsOne 70 = .ok (.invokevirtual 315, 3) := by decide +kernel
theorem dX2_holdsOne_73 : decode cX2_holdsOne 73 = .ok (.ireturn, 1) := by decide +kernel
set_option maxHeartbeats 4000000 in
theorem met_holdsOne (l : Launch) (adK adV st : Nat → Nat) (D : va_G) (E : Nat → ClassId) (A : Nat → Prop) (h : Nat) (ad : Nat → Nat) (I : Nat → Int) (F : Nat → Int → Int) (h49 : 0 ≤ I 49 ∧ I 49 ≤ I 48) (h54 : 0 ≤ I 54 ∧ I 54 ≤ 500) (h59 : 0 ≤ I 59 ∧ I 59 < 300) (h55 : 0 ≤ I 55 ∧ I 55 ≤ 8) (r50 : 0 ≤ I 50 ∧ I 50 ≤ 4) (r52 : -128 ≤ I 52 ∧ I 52 ≤ 10000019) (gl0 : gTxt I F) : ME l yX2_holdsOne cX2_holdsOne 2 (some .boolean) (mrm 7) adK adV st D E A h ad [] I F (MQi D E A h ad (fun z I1 F1 => ((I 50 = 2 ∧ I 52 = 11) ∧ I 55 ≠ 8 ∧ 1 = z ∧ va_up (va_up (va_up (va_up (va_up (va_up (va_up (va_up I 55 ((I 55) + 1)) 54 ((I 54) + 1)) 54 (((I 54) + 1) + 1)) 54 ((((I 54) + 1) + 1) + 1)) 49 (tT (F 47) (I 48) (I 49))) 50 (tK (F 47) (I 48) (I 49))) 51 (tF (F 47) (I 48) (I 49))) 52 (tV (F 47) (I 48) (I 49)) = I1 ∧ upF (upF (upF F 53 (I 54) 12) 53 ((I 54) + 1) 1011) 53 (((I 54) + 1) + 1) 10 = F1) ∨ ((I 50 = 3 ∧ I 52 = 91) ∧ I 55 ≠ 8 ∧ 1 = z ∧ va_up (va_up (va_up (va_up (va_up (va_up (va_up (va_up I 55 ((I 55) + 1)) 54 ((I 54) + 1)) 54 (((I 54) + 1) + 1)) 54 ((((I 54) + 1) + 1) + 1)) 49 (tT (F 47) (I 48) (I 49))) 50 (tK (F 47) (I 48) (I 49))) 51 (tF (F 47) (I 48) (I 49))) 52 (tV (F 47) (I 48) (I 49)) = I1 ∧ upF (upF (upF F 53 (I 54) 12) 53 ((I 54) + 1) 193) 53 (((I 54) + 1) + 1) 6 = F1) ∨ (((I 50 = 2 ∧ I 52 = 11) ∨ (I 50 = 3 ∧ I 52 = 91)) ∧ I 55 = 8 ∧ 0 = z ∧ I = I1 ∧ F = F1) ∨ (¬ (I 50 = 2 ∧ I 52 = 11) ∧ ¬ (I 50 = 3 ∧ I 52 = 91) ∧ 1 = z ∧ va_up (va_up I 54 ((I 54) + 1)) 54 (((I 54) + 1) + 1) = I1 ∧ upF (upF F 53 (I 54) 11) 53 ((I 54) + 1) 1 = F1))) := by
  refine m_startE (by decide) rfl (Nat.le_of_ble_eq_true rfl) ?_
  intro p e R s m args below meth c ls Q hR hQ hC hml hr hlk hM hS hE hl
  have hx := hC.1
  have hb := hC.2.1
  have hown := hC.2.2.1
  have hts := hC.2.2.2.1
  have hl : lv_has ls 2 [(0, .ref h)] := hl
  obtain ⟨i48, a47⟩ := id gl0
  refine lv_aload_n hx hb dX2_holdsOne_0 rfl (lv_at hl 0 rfl) ?_
  refine r_bipush hx hb dX2_holdsOne_1 (by decide) ?_
  refine m_calli (kX2_isWord (rest := []) (as := [.int (iI 11)]) hC hml (met_isWord l D E A h ad I F 11 (by decide) (show R32 (I 50) by omega) (show R32 (I 52) by omega)) ⟨rfl, rfl⟩ hR (by decide) hM rfl hl.1 rfl (Nat.le_of_ble_eq_true rfl) dX2_holdsOne_3) hS (fun z1 I2 F3 H locs hp4 hM hS => ?_)
  obtain ⟨rfl, rfl, rfl⟩ := hp4
  refine lv_istore_n (lv' := [(1, .int (iI (if I 50 = 2 ∧ I 52 = 11 then 1 else 0))), (0, .ref h)]) hx hb dX2_holdsOne_6 rfl hl (by decide) rfl (fun ls hl => ?_)
  refine lv_iload_n hx hb dX2_holdsOne_7 rfl (lv_at hl 0 rfl) ?_
  refine r_ifneB (tgt := 28) hx hb dX2_holdsOne_8 (by decide) (fun cn => ?_) (fun cn => ?_)
  · refine lv_aload_n hx hb dX2_holdsOne_28 rfl (lv_at hl 1 rfl) ?_
    refine m_calli (kX2_deeper (rest := []) (as := []) hC hml (met_deeper l D E A h ad I F (show 0 ≤ (I 54) ∧ (I 54) ≤ 500 by omega) (show 0 ≤ (I 55) ∧ (I 55) ≤ 8 by omega)) ⟨rfl, rfl⟩ hR (by decide) hM rfl hl.1 rfl (Nat.le_of_ble_eq_true rfl) dX2_holdsOne_29) hS (fun z5 I6 F7 H locs hp8 hM hS => ?_)
    rcases hp8 with ⟨hd8, rfl, rfl, rfl⟩ | ⟨hd8, rfl, rfl, rfl⟩
    · refine W.eq (g2 := F0 m 32 ls [.int (iI 0)]) rfl ?_
      refine r_if_ne (tgt := 37) hx hb dX2_holdsOne_32 (by decide) (by decide) (fun c9 => absurd c9 (by decide)) (fun c9 => ?_)
      refine r_iconst hx hb dX2_holdsOne_35 ?_
      exact m_zret hC hQ hr hlk hM hS (by decide) dX2_holdsOne_36 (Or.inr (Or.inr (Or.inl ⟨by omega, by omega, rfl, rfl, rfl⟩)))
    · refine W.eq (g2 := F0 m 32 ls [.int (iI 1)]) rfl ?_
      refine r_if_ne (tgt := 37) hx hb dX2_holdsOne_32 (by decide) (by decide) (fun c10 => ?_) (fun c10 => absurd c10 (by decide))
      refine lv_aload_n hx hb dX2_holdsOne_37 rfl (lv_at hl 1 rfl) ?_
      refine lv_iload_n hx hb dX2_holdsOne_38 rfl (lv_at hl 0 rfl) ?_
      refine r_ifeqB (tgt := 48) hx hb dX2_holdsOne_39 (by decide) (fun cz => ?_) (fun cz => ?_)
      · exact absurd cn cz
      · refine r_sipush hx hb dX2_holdsOne_42 (by decide) ?_
        refine lv_goto (tgt := 51) hx hb dX2_holdsOne_45 (by decide) ?_
        refine m_callv (kX2_push (rest := []) (as := [.int (iI 1011)]) hC hml (met_push l D E A h ad (va_up (va_up I 55 ((I 55) + 1)) 54 ((I 54) + 1)) (upF F 53 (I 54) 12) 1011 (show 0 ≤ ((I 54) + 1) ∧ ((I 54) + 1) < 600 by omega)) ⟨rfl, rfl⟩ hR (by decide) hM rfl hl.1 rfl (Nat.le_of_ble_eq_true rfl) dX2_holdsOne_51) hS (fun I12 F13 H locs hp14 hM hS => ?_)
        obtain ⟨rfl, rfl⟩ := hp14
        refine lv_aload_n hx hb dX2_holdsOne_54 rfl (lv_at hl 1 rfl) ?_
        refine lv_iload_n hx hb dX2_holdsOne_55 rfl (lv_at hl 0 rfl) ?_
        refine r_ifeqB (tgt := 64) hx hb dX2_holdsOne_56 (by decide) (fun cz2 => ?_) (fun cz2 => ?_)
        · exact absurd cn cz2
        · refine r_bipush hx hb dX2_holdsOne_59 (by decide) ?_
          refine lv_goto (tgt := 66) hx hb dX2_holdsOne_61 (by decide) ?_
          refine m_callv (kX2_push (rest := []) (as := [.int (iI 10)]) hC hml (met_push l D E A h ad (va_up (va_up (va_up I 55 ((I 55) + 1)) 54 ((I 54) + 1)) 54 (((I 54) + 1) + 1)) (upF (upF F 53 (I 54) 12) 53 ((I 54) + 1) 1011) 10 (show 0 ≤ (((I 54) + 1) + 1) ∧ (((I 54) + 1) + 1) < 600 by omega)) ⟨rfl, rfl⟩ hR (by decide) hM rfl hl.1 rfl (Nat.le_of_ble_eq_true rfl) dX2_holdsOne_66) hS (fun I16 F17 H locs hp18 hM hS => ?_)
          obtain ⟨rfl, rfl⟩ := hp18
          refine lv_aload_n hx hb dX2_holdsOne_69 rfl (lv_at hl 1 rfl) ?_
          refine m_calli (m_runE (n := 0) (rest := []) (as := []) hC hml (met_takes l adK adV st D E A h ad (va_up (va_up (va_up (va_up I 55 ((I 55) + 1)) 54 ((I 54) + 1)) 54 (((I 54) + 1) + 1)) 54 ((((I 54) + 1) + 1) + 1)) (upF (upF (upF F 53 (I 54) 12) 53 ((I 54) + 1) 1011) 53 (((I 54) + 1) + 1) 10) (show 0 ≤ (I 49) ∧ (I 49) ≤ (I 48) by omega) gl0) q1421 q1423 qs53 q73 q1424 (by decide +kernel) ⟨rfl, rfl⟩ hR (by decide) ⟨Nat.zero_le _, Nat.zero_le _⟩ hM hE hS rfl hl.1 rfl (Nat.le_of_ble_eq_true rfl) dX2_holdsOne_70) hS (fun z19 I20 F21 H locs hp22 hM hS => ?_)
          obtain ⟨rfl, rfl, rfl⟩ := hp22
          refine W.eq (g2 := F0 m 73 ls [.int (iI 1)]) rfl ?_
          exact m_zret hC hQ hr hlk hM hS (by decide) dX2_holdsOne_73 (Or.inl ⟨by omega, by omega, rfl, rfl, rfl⟩)
  · refine lv_aload_n hx hb dX2_holdsOne_11 rfl (lv_at hl 1 rfl) ?_
    refine r_bipush hx hb dX2_holdsOne_12 (by decide) ?_
    refine m_calli (kX2_isSign (rest := []) (as := [.int (iI 91)]) hC hml (met_isSign l D E A h ad I F 91 (by decide) (show R32 (I 50) by omega) (show R32 (I 52) by omega)) ⟨rfl, rfl⟩ hR (by decide) hM rfl hl.1 rfl (Nat.le_of_ble_eq_true rfl) dX2_holdsOne_14) hS (fun z23 I24 F25 H locs hp26 hM hS => ?_)
    obtain ⟨rfl, rfl, rfl⟩ := hp26
    refine r_ifneB (tgt := 28) hx hb dX2_holdsOne_17 (by decide) (fun c27 => ?_) (fun c27 => ?_)
    · refine lv_aload_n hx hb dX2_holdsOne_28 rfl (lv_at hl 1 rfl) ?_
      refine m_calli (kX2_deeper (rest := []) (as := []) hC hml (met_deeper l D E A h ad I F (show 0 ≤ (I 54) ∧ (I 54) ≤ 500 by omega) (show 0 ≤ (I 55) ∧ (I 55) ≤ 8 by omega)) ⟨rfl, rfl⟩ hR (by decide) hM rfl hl.1 rfl (Nat.le_of_ble_eq_true rfl) dX2_holdsOne_29) hS (fun z28 I29 F30 H locs hp31 hM hS => ?_)
      rcases hp31 with ⟨hd8, rfl, rfl, rfl⟩ | ⟨hd8, rfl, rfl, rfl⟩
      · refine W.eq (g2 := F0 m 32 ls [.int (iI 0)]) rfl ?_
        refine r_if_ne (tgt := 37) hx hb dX2_holdsOne_32 (by decide) (by decide) (fun c32 => absurd c32 (by decide)) (fun c32 => ?_)
        refine r_iconst hx hb dX2_holdsOne_35 ?_
        exact m_zret hC hQ hr hlk hM hS (by decide) dX2_holdsOne_36 (Or.inr (Or.inr (Or.inl ⟨by omega, by omega, rfl, rfl, rfl⟩)))
      · refine W.eq (g2 := F0 m 32 ls [.int (iI 1)]) rfl ?_
        refine r_if_ne (tgt := 37) hx hb dX2_holdsOne_32 (by decide) (by decide) (fun c33 => ?_) (fun c33 => absurd c33 (by decide))
        refine lv_aload_n hx hb dX2_holdsOne_37 rfl (lv_at hl 1 rfl) ?_
        refine lv_iload_n hx hb dX2_holdsOne_38 rfl (lv_at hl 0 rfl) ?_
        refine r_ifeqB (tgt := 48) hx hb dX2_holdsOne_39 (by decide) (fun cz => ?_) (fun cz => ?_)
        · refine r_sipush hx hb dX2_holdsOne_48 (by decide) ?_
          refine m_callv (kX2_push (rest := []) (as := [.int (iI 193)]) hC hml (met_push l D E A h ad (va_up (va_up I 55 ((I 55) + 1)) 54 ((I 54) + 1)) (upF F 53 (I 54) 12) 193 (show 0 ≤ ((I 54) + 1) ∧ ((I 54) + 1) < 600 by omega)) ⟨rfl, rfl⟩ hR (by decide) hM rfl hl.1 rfl (Nat.le_of_ble_eq_true rfl) dX2_holdsOne_51) hS (fun I35 F36 H locs hp37 hM hS => ?_)
          obtain ⟨rfl, rfl⟩ := hp37
          refine lv_aload_n hx hb dX2_holdsOne_54 rfl (lv_at hl 1 rfl) ?_
          refine lv_iload_n hx hb dX2_holdsOne_55 rfl (lv_at hl 0 rfl) ?_
          refine r_ifeqB (tgt := 64) hx hb dX2_holdsOne_56 (by decide) (fun cz2 => ?_) (fun cz2 => ?_)
          · refine r_bipush hx hb dX2_holdsOne_64 (by decide) ?_
            refine m_callv (kX2_push (rest := []) (as := [.int (iI 6)]) hC hml (met_push l D E A h ad (va_up (va_up (va_up I 55 ((I 55) + 1)) 54 ((I 54) + 1)) 54 (((I 54) + 1) + 1)) (upF (upF F 53 (I 54) 12) 53 ((I 54) + 1) 193) 6 (show 0 ≤ (((I 54) + 1) + 1) ∧ (((I 54) + 1) + 1) < 600 by omega)) ⟨rfl, rfl⟩ hR (by decide) hM rfl hl.1 rfl (Nat.le_of_ble_eq_true rfl) dX2_holdsOne_66) hS (fun I39 F40 H locs hp41 hM hS => ?_)
            obtain ⟨rfl, rfl⟩ := hp41
            refine lv_aload_n hx hb dX2_holdsOne_69 rfl (lv_at hl 1 rfl) ?_
            refine m_calli (m_runE (n := 0) (rest := []) (as := []) hC hml (met_takes l adK adV st D E A h ad (va_up (va_up (va_up (va_up I 55 ((I 55) + 1)) 54 ((I 54) + 1)) 54 (((I 54) + 1) + 1)) 54 ((((I 54) + 1) + 1) + 1)) (upF (upF (upF F 53 (I 54) 12) 53 ((I 54) + 1) 193) 53 (((I 54) + 1) + 1) 6) (show 0 ≤ (I 49) ∧ (I 49) ≤ (I 48) by omega) gl0) q1421 q1423 qs53 q73 q1424 (by decide +kernel) ⟨rfl, rfl⟩ hR (by decide) ⟨Nat.zero_le _, Nat.zero_le _⟩ hM hE hS rfl hl.1 rfl (Nat.le_of_ble_eq_true rfl) dX2_holdsOne_70) hS (fun z42 I43 F44 H locs hp45 hM hS => ?_)
            obtain ⟨rfl, rfl, rfl⟩ := hp45
            refine W.eq (g2 := F0 m 73 ls [.int (iI 1)]) rfl ?_
            exact m_zret hC hQ hr hlk hM hS (by decide) dX2_holdsOne_73 (Or.inr (Or.inl ⟨by omega, by omega, rfl, rfl, rfl⟩))
          · exact absurd cz2 cn
        · exact absurd cz cn
    · refine lv_aload_n hx hb dX2_holdsOne_20 rfl (lv_at hl 1 rfl) ?_
      refine r_bipush hx hb dX2_holdsOne_21 (by decide) ?_
      refine r_iconst hx hb dX2_holdsOne_23 ?_
      refine m_calli (kX2_both (rest := []) (as := [.int (iI 11), .int (iI 1)]) hC hml (met_both l D E A h ad I F 11 1 (show 0 ≤ (I 54) ∧ (I 54) ≤ 500 by omega)) ⟨rfl, rfl⟩ hR (by decide) hM rfl hl.1 rfl (Nat.le_of_ble_eq_true rfl) dX2_holdsOne_24) hS (fun z46 I47 F48 H locs hp49 hM hS => ?_)
      obtain ⟨rfl, rfl, rfl⟩ := hp49
      exact m_zret hC hQ hr hlk hM hS (by decide) dX2_holdsOne_27 (Or.inr (Or.inr (Or.inr ⟨by omega, by omega, rfl, rfl, rfl⟩)))
