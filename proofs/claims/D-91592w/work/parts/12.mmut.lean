/-! THE MODEL: methods that change a field or two -/
set_option maxRecDepth 100000
theorem dX2_tank_0 : decode cX2_tank 0 = .ok (.iload_n 1, 1) := by decide +kernel
theorem dX2_tank_1 : decode cX2_tank 1 = .ok (.iconst 1, 1) := by decide +kernel
theorem dX2_tank_2 : decode cX2_tank 2 = .ok (.bipush 9, 2) := by decide +kernel
theorem dX2_tank_4 : decode cX2_tank 4 = .ok (.invokestatic 173, 3) := by decide +kernel
theorem dX2_tank_7 : decode cX2_tank 7 = .ok (.ifCond .eq 32, 3) := by decide +kernel
theorem dX2_tank_10 : decode cX2_tank 10 = .ok (.iload_n 2, 1) := by decide +kernel
theorem dX2_tank_11 : decode cX2_tank 11 = .ok (.iconst 0, 1) := by decide +kernel
theorem dX2_tank_12 : decode cX2_tank 12 = .ok (.bipush 40, 2) := by decide +kernel
theorem dX2_tank_14 : decode cX2_tank 14 = .ok (.invokestatic 173, 3) := by decide +kernel
theorem dX2_tank_17 : decode cX2_tank 17 = .ok (.ifCond .eq 22, 3) := by decide +kernel
theorem dX2_tank_20 : decode cX2_tank 20 = .ok (.iload_n 3, 1) := by decide +kernel
theorem dX2_tank_21 : decode cX2_tank 21 = .ok (.iconst 1, 1) := by decide +kernel
theorem dX2_tank_22 : decode cX2_tank 22 = .ok (.sipush 300, 3) := by decide +kernel
theorem dX2_tank_25 : decode cX2_tank 25 = .ok (.invokestatic 173, 3) := by decide +kernel
theorem dX2_tank_28 : decode cX2_tank 28 = .ok (.ifCond .eq 11, 3) := by decide +kernel
theorem dX2_tank_31 : decode cX2_tank 31 = .ok (.aload_n 0, 1) := by decide +kernel
theorem dX2_tank_32 : decode cX2_tank 32 = .ok (.getfield 188, 3) := by decide +kernel
theorem dX2_tank_35 : decode cX2_tank 35 = .ok (.iconst 4, 1) := by decide +kernel
theorem dX2_tank_36 : decode cX2_tank 36 = .ok (.if_icmp .ne 5, 3) := by decide +kernel
theorem dX2_tank_39 : decode cX2_tank 39 = .ok (.iconst (-1), 1) := by decide +kernel
theorem dX2_tank_40 : decode cX2_tank 40 = .ok (.ireturn, 1) := by decide +kernel
theorem dX2_tank_41 : decode cX2_tank 41 = .ok (.aload_n 0, 1) := by decide +kernel
theorem dX2_tank_42 : decode cX2_tank 42 = .ok (.getfield 35, 3) := by decide +kernel
theorem dX2_tank_45 : decode cX2_tank 45 = .ok (.aload_n 0, 1) := by decide +kernel
theorem dX2_tank_46 : decode cX2_tank 46 = .ok (.getfield 188, 3) := by decide +kernel
theorem dX2_tank_49 : decode cX2_tank 49 = .ok (.iload_n 1, 1) := by decide +kernel
theorem dX2_tank_50 : decode cX2_tank 50 = .ok (.iastore, 1) := by decide +kernel
theorem dX2_tank_51 : decode cX2_tank 51 = .ok (.aload_n 0, 1) := by decide +kernel
theorem dX2_tank_52 : decode cX2_tank 52 = .ok (.getfield 38, 3) := by decide +kernel
theorem dX2_tank_55 : decode cX2_tank 55 = .ok (.aload_n 0, 1) := by decide +kernel
theorem dX2_tank_56 : decode cX2_tank 56 = .ok (.getfield 188, 3) := by decide +kernel
theorem dX2_tank_59 : decode cX2_tank 59 = .ok (.iload_n 2, 1) := by decide +kernel
theorem dX2_tank_60 : decode cX2_tank 60 = .ok (.iastore, 1) := by decide +kernel
theorem dX2_tank_61 : decode cX2_tank 61 = .ok (.aload_n 0, 1) := by decide +kernel
theorem dX2_tank_62 : decode cX2_tank 62 = .ok (.getfield 41, 3) := by decide +kernel
theorem dX2_tank_65 : decode cX2_tank 65 = .ok (.aload_n 0, 1) := by decide +kernel
theorem dX2_tank_66 : decode cX2_tank 66 = .ok (.getfield 188, 3) := by decide +kernel
theorem dX2_tank_69 : decode cX2_tank 69 = .ok (.iload_n 3, 1) := by decide +kernel
theorem dX2_tank_70 : decode cX2_tank 70 = .ok (.iastore, 1) := by decide +kernel
theorem dX2_tank_71 : decode cX2_tank 71 = .ok (.aload_n 0, 1) := by decide +kernel
theorem dX2_tank_72 : decode cX2_tank 72 = .ok (.dup, 1) := by decide +kernel
theorem dX2_tank_73 : decode cX2_tank 73 = .ok (.getfield 188, 3) := by decide +kernel
theorem dX2_tank_76 : decode cX2_tank 76 = .ok (.iconst 1, 1) := by decide +kernel
theorem dX2_tank_77 : decode cX2_tank 77 = .ok (.iadd, 1) := by decide +kernel
theorem dX2_tank_78 : decode cX2_tank 78 = .ok (.putfield 188, 3) := by decide +kernel
theorem dX2_tank_81 : decode cX2_tank 81 = .ok (.aload_n 0, 1) := by decide +kernel
theorem dX2_tank_82 : decode cX2_tank 82 = .ok (.getfield 188, 3) := by decide +kernel
theorem dX2_tank_85 : decode cX2_tank 85 = .ok (.iconst 1, 1) := by decide +kernel
theorem dX2_tank_86 : decode cX2_tank 86 = .ok (.isub, 1) := by decide +kernel
theorem dX2_tank_87 : decode cX2_tank 87 = .ok (.ireturn, 1) := by decide +kernel
set_option maxHeartbeats 4000000 in
theorem met_tank (l : Launch) (D : va_G) (E : Nat → ClassId) (A : Nat → Prop) (h : Nat) (ad : Nat → Nat) (I : Nat → Int) (F : Nat → Int → Int) (wd : Int) (r_wd : R32 wd) (ht : Int) (r_ht : R32 ht) (hd : Int) (r_hd : R32 hd) (gl : gLoad I F) : MM l yX2_tank cX2_tank 4 (some .int) (mrm 1) D E A h ad [.int (iI wd), .int (iI ht), .int (iI hd)] I F (MQi D E A h ad (fun z I1 F1 => (((1 ≤ wd ∧ wd ≤ 9) ∧ (0 ≤ ht ∧ ht ≤ 40) ∧ (1 ≤ hd ∧ hd ≤ 300) ∧ I 10 ≠ 4) ∧ I 10 = z ∧ va_up I 10 (I 10 + 1) = I1 ∧ upF (upF (upF F 11 (I 10) wd) 12 (I 10) ht) 13 (I 10) hd = F1) ∨ (¬ ((1 ≤ wd ∧ wd ≤ 9) ∧ (0 ≤ ht ∧ ht ≤ 40) ∧ (1 ≤ hd ∧ hd ≤ 300) ∧ I 10 ≠ 4) ∧ -1 = z ∧ I = I1 ∧ F = F1))) := by
  refine m_start (by decide) rfl (Nat.le_of_ble_eq_true rfl) ?_
  intro p e R s m args below meth c ls Q hR hQ hC hml hr hlk hM hS hl
  have hx := hC.1
  have hb := hC.2.1
  have hown := hC.2.2.1
  have hts := hC.2.2.2.1
  have hl : lv_has ls 4 [(0, .ref h), (1, .int (iI wd)), (2, .int (iI ht)), (3, .int (iI hd))] := hl
  obtain ⟨i4, a5, a6, a7, a8, a9, i10, a11, a12, a13, a14, a14h⟩ := gl
  refine lv_iload_n hx hb dX2_tank_0 rfl (lv_at hl 1 rfl) ?_
  refine r_iconst hx hb dX2_tank_1 ?_
  refine r_bipush hx hb dX2_tank_2 (by decide) ?_
  refine s_calli (kX2_X2_in (rest := []) (as := [.int (iI wd), .int (iI 1), .int (iI 9)]) hx hb hml hown hts (met_in l wd 1 9 r_wd (by decide) (by decide)) ⟨rfl, rfl⟩ hR (by decide) rfl hl.1 rfl (Nat.le_of_ble_eq_true rfl) dX2_tank_4) ?_
  refine r_ifeqB (tgt := 39) hx hb dX2_tank_7 (by decide) (fun c1 => ?_) (fun c1 => ?_)
  · refine r_iconst hx hb dX2_tank_39 ?_
    exact m_iret hC hQ hr hlk hM hS dX2_tank_40 (Or.inr ⟨by omega, rfl, rfl, rfl⟩)
  · refine lv_iload_n hx hb dX2_tank_10 rfl (lv_at hl 2 rfl) ?_
    refine r_iconst hx hb dX2_tank_11 ?_
    refine r_bipush hx hb dX2_tank_12 (by decide) ?_
    refine s_calli (kX2_X2_in (rest := []) (as := [.int (iI ht), .int (iI 0), .int (iI 40)]) hx hb hml hown hts (met_in l ht 0 40 r_ht (by decide) (by decide)) ⟨rfl, rfl⟩ hR (by decide) rfl hl.1 rfl (Nat.le_of_ble_eq_true rfl) dX2_tank_14) ?_
    refine r_ifeqB (tgt := 39) hx hb dX2_tank_17 (by decide) (fun c2 => ?_) (fun c2 => ?_)
    · refine r_iconst hx hb dX2_tank_39 ?_
      exact m_iret hC hQ hr hlk hM hS dX2_tank_40 (Or.inr ⟨by omega, rfl, rfl, rfl⟩)
    · refine lv_iload_n hx hb dX2_tank_20 rfl (lv_at hl 3 rfl) ?_
      refine r_iconst hx hb dX2_tank_21 ?_
      refine r_sipush hx hb dX2_tank_22 (by decide) ?_
      refine s_calli (kX2_X2_in (rest := []) (as := [.int (iI hd), .int (iI 1), .int (iI 300)]) hx hb hml hown hts (met_in l hd 1 300 r_hd (by decide) (by decide)) ⟨rfl, rfl⟩ hR (by decide) rfl hl.1 rfl (Nat.le_of_ble_eq_true rfl) dX2_tank_25) ?_
      refine r_ifeqB (tgt := 39) hx hb dX2_tank_28 (by decide) (fun c3 => ?_) (fun c3 => ?_)
      · refine r_iconst hx hb dX2_tank_39 ?_
        exact m_iret hC hQ hr hlk hM hS dX2_tank_40 (Or.inr ⟨by omega, rfl, rfl, rfl⟩)
      · refine lv_aload_n hx hb dX2_tank_31 rfl (lv_at hl 0 rfl) ?_
        refine mg_10 (v := I 10) hC hM rfl dX2_tank_32 ?_
        refine r_iconst hx hb dX2_tank_35 ?_
        refine r_icmp_ne (tgt := 41) hx hb dX2_tank_36 (by decide) (by omega) (by decide) (fun c4 => ?_) (fun c4 => ?_)
        · refine lv_aload_n hx hb dX2_tank_41 rfl (lv_at hl 0 rfl) ?_
          refine mg_11 hC hM dX2_tank_42 ?_
          refine lv_aload_n hx hb dX2_tank_45 rfl (lv_at hl 0 rfl) ?_
          refine mg_10 (v := I 10) hC hM rfl dX2_tank_46 ?_
          refine lv_iload_n hx hb dX2_tank_49 rfl (lv_at hl 1 rfl) ?_
          refine ms_11 (v := wd) hC hM hS (by omega) dX2_tank_50 (fun H locs hM hS => ?_)
          refine lv_aload_n hx hb dX2_tank_51 rfl (lv_at hl 0 rfl) ?_
          refine mg_12 hC hM dX2_tank_52 ?_
          refine lv_aload_n hx hb dX2_tank_55 rfl (lv_at hl 0 rfl) ?_
          refine mg_10 (v := I 10) hC hM rfl dX2_tank_56 ?_
          refine lv_iload_n hx hb dX2_tank_59 rfl (lv_at hl 2 rfl) ?_
          refine ms_12 (v := ht) hC hM hS (by omega) dX2_tank_60 (fun H locs hM hS => ?_)
          refine lv_aload_n hx hb dX2_tank_61 rfl (lv_at hl 0 rfl) ?_
          refine mg_13 hC hM dX2_tank_62 ?_
          refine lv_aload_n hx hb dX2_tank_65 rfl (lv_at hl 0 rfl) ?_
          refine mg_10 (v := I 10) hC hM rfl dX2_tank_66 ?_
          refine lv_iload_n hx hb dX2_tank_69 rfl (lv_at hl 3 rfl) ?_
          refine ms_13 (v := hd) hC hM hS (by omega) dX2_tank_70 (fun H locs hM hS => ?_)
          refine lv_aload_n hx hb dX2_tank_71 rfl (lv_at hl 0 rfl) ?_
          refine lv_dup hx hb dX2_tank_72 rfl ?_
          refine mg_10 (v := I 10) hC hM rfl dX2_tank_73 ?_
          refine r_iconst hx hb dX2_tank_76 ?_
          refine r_iadd hx hb dX2_tank_77 ?_
          refine mp_10 hC hM hS dX2_tank_78 (fun H locs hM hS => ?_)
          refine lv_aload_n hx hb dX2_tank_81 rfl (lv_at hl 0 rfl) ?_
          refine mg_10 (v := (I 10) + 1) hC hM rfl dX2_tank_82 ?_
          refine r_iconst hx hb dX2_tank_85 ?_
          refine r_isub hx hb dX2_tank_86 ?_
          exact m_iret hC hQ hr hlk hM hS dX2_tank_87 (Or.inl ⟨by omega, by omega, rfl, rfl⟩)
        · refine r_iconst hx hb dX2_tank_39 ?_
          exact m_iret hC hQ hr hlk hM hS dX2_tank_40 (Or.inr ⟨by omega, rfl, rfl, rfl⟩)
theorem dX2_weight_0 : decode cX2_weight 0 = .ok (.iload_n 1, 1) := by decide +kernel
theorem dX2_weight_1 : decode cX2_weight 1 = .ok (.iconst 1, 1) := by decide +kernel
theorem dX2_weight_2 : decode cX2_weight 2 = .ok (.sipush 500, 3) := by decide +kernel
theorem dX2_weight_5 : decode cX2_weight 5 = .ok (.invokestatic 173, 3) := by decide +kernel
theorem dX2_weight_8 : decode cX2_weight 8 = .ok (.ifCond .eq 44, 3) := by decide +kernel
theorem dX2_weight_11 : decode cX2_weight 11 = .ok (.iload_n 2, 1) := by decide +kernel
theorem dX2_weight_12 : decode cX2_weight 12 = .ok (.bipush (-19), 2) := by decide +kernel
theorem dX2_weight_14 : decode cX2_weight 14 = .ok (.bipush 19, 2) := by decide +kernel
theorem dX2_weight_16 : decode cX2_weight 16 = .ok (.invokestatic 173, 3) := by decide +kernel
theorem dX2_weight_19 : decode cX2_weight 19 = .ok (.ifCond .eq 33, 3) := by decide +kernel
theorem dX2_weight_22 : decode cX2_weight 22 = .ok (.iload_n 3, 1) := by decide +kernel
theorem dX2_weight_23 : decode cX2_weight 23 = .ok (.iconst 0, 1) := by decide +kernel
theorem dX2_weight_24 : decode cX2_weight 24 = .ok (.bipush 40, 2) := by decide +kernel
theorem dX2_weight_26 : decode cX2_weight 26 = .ok (.invokestatic 173, 3) := by decide +kernel
theorem dX2_weight_29 : decode cX2_weight 29 = .ok (.ifCond .eq 23, 3) := by decide +kernel
theorem dX2_weight_32 : decode cX2_weight 32 = .ok (.iload 4, 2) := by decide +kernel
theorem dX2_weight_34 : decode cX2_weight 34 = .ok (.iconst (-1), 1) := by decide +kernel
theorem dX2_weight_35 : decode cX2_weight 35 = .ok (.bipush 80, 2) := by decide +kernel
theorem dX2_weight_37 : decode cX2_weight 37 = .ok (.invokestatic 173, 3) := by decide +kernel
theorem dX2_weight_40 : decode cX2_weight 40 = .ok (.ifCond .eq 12, 3) := by decide +kernel
theorem dX2_weight_43 : decode cX2_weight 43 = .ok (.aload_n 0, 1) := by decide +kernel
theorem dX2_weight_44 : decode cX2_weight 44 = .ok (.getfield 181, 3) := by decide +kernel
theorem dX2_weight_47 : decode cX2_weight 47 = .ok (.bipush 12, 2) := by decide +kernel
theorem dX2_weight_49 : decode cX2_weight 49 = .ok (.if_icmp .ne 5, 3) := by decide +kernel
theorem dX2_weight_52 : decode cX2_weight 52 = .ok (.iconst (-1), 1) := by decide +kernel
theorem dX2_weight_53 : decode cX2_weight 53 = .ok (.ireturn, 1) := by decide +kernel
theorem dX2_weight_54 : decode cX2_weight 54 = .ok (.aload_n 0, 1) := by decide +kernel
theorem dX2_weight_55 : decode cX2_weight 55 = .ok (.getfield 19, 3) := by decide +kernel
theorem dX2_weight_58 : decode cX2_weight 58 = .ok (.aload_n 0, 1) := by decide +kernel
theorem dX2_weight_59 : decode cX2_weight 59 = .ok (.getfield 181, 3) := by decide +kernel
theorem dX2_weight_62 : decode cX2_weight 62 = .ok (.iload_n 1, 1) := by decide +kernel
theorem dX2_weight_63 : decode cX2_weight 63 = .ok (.iastore, 1) := by decide +kernel
theorem dX2_weight_64 : decode cX2_weight 64 = .ok (.aload_n 0, 1) := by decide +kernel
theorem dX2_weight_65 : decode cX2_weight 65 = .ok (.getfield 22, 3) := by decide +kernel
theorem dX2_weight_68 : decode cX2_weight 68 = .ok (.aload_n 0, 1) := by decide +kernel
theorem dX2_weight_69 : decode cX2_weight 69 = .ok (.getfield 181, 3) := by decide +kernel
theorem dX2_weight_72 : decode cX2_weight 72 = .ok (.iload_n 2, 1) := by decide +kernel
theorem dX2_weight_73 : decode cX2_weight 73 = .ok (.iastore, 1) := by decide +kernel
theorem dX2_weight_74 : decode cX2_weight 74 = .ok (.aload_n 0, 1) := by decide +kernel
theorem dX2_weight_75 : decode cX2_weight 75 = .ok (.getfield 72, 3) := by decide +kernel
theorem dX2_weight_78 : decode cX2_weight 78 = .ok (.aload_n 0, 1) := by decide +kernel
theorem dX2_weight_79 : decode cX2_weight 79 = .ok (.getfield 181, 3) := by decide +kernel
theorem dX2_weight_82 : decode cX2_weight 82 = .ok (.iload_n 2, 1) := by decide +kernel
theorem dX2_weight_83 : decode cX2_weight 83 = .ok (.iastore, 1) := by decide +kernel
theorem dX2_weight_84 : decode cX2_weight 84 = .ok (.aload_n 0, 1) := by decide +kernel
theorem dX2_weight_85 : decode cX2_weight 85 = .ok (.getfield 25, 3) := by decide +kernel
theorem dX2_weight_88 : decode cX2_weight 88 = .ok (.aload_n 0, 1) := by decide +kernel
theorem dX2_weight_89 : decode cX2_weight 89 = .ok (.getfield 181, 3) := by decide +kernel
theorem dX2_weight_92 : decode cX2_weight 92 = .ok (.iload_n 3, 1) := by decide +kernel
theorem dX2_weight_93 : decode cX2_weight 93 = .ok (.iastore, 1) := by decide +kernel
theorem dX2_weight_94 : decode cX2_weight 94 = .ok (.aload_n 0, 1) := by decide +kernel
theorem dX2_weight_95 : decode cX2_weight 95 = .ok (.getfield 28, 3) := by decide +kernel
theorem dX2_weight_98 : decode cX2_weight 98 = .ok (.aload_n 0, 1) := by decide +kernel
theorem dX2_weight_99 : decode cX2_weight 99 = .ok (.getfield 181, 3) := by decide +kernel
theorem dX2_weight_102 : decode cX2_weight 102 = .ok (.iload 4, 2) := by decide +kernel
theorem dX2_weight_104 : decode cX2_weight 104 = .ok (.iastore, 1) := by decide +kernel
theorem dX2_weight_105 : decode cX2_weight 105 = .ok (.aload_n 0, 1) := by decide +kernel
theorem dX2_weight_106 : decode cX2_weight 106 = .ok (.dup, 1) := by decide +kernel
theorem dX2_weight_107 : decode cX2_weight 107 = .ok (.getfield 181, 3) := by decide +kernel
theorem dX2_weight_110 : decode cX2_weight 110 = .ok (.iconst 1, 1) := by decide +kernel
theorem dX2_weight_111 : decode cX2_weight 111 = .ok (.iadd, 1) := by decide +kernel
theorem dX2_weight_112 : decode cX2_weight 112 = .ok (.putfield 181, 3) := by decide +kernel
theorem dX2_weight_115 : decode cX2_weight 115 = .ok (.aload_n 0, 1) := by decide +kernel
theorem dX2_weight_116 : decode cX2_weight 116 = .ok (.getfield 181, 3) := by decide +kernel
theorem dX2_weight_119 : decode cX2_weight 119 = .ok (.iconst 1, 1) := by decide +kernel
theorem dX2_weight_120 : decode cX2_weight 120 = .ok (.isub, 1) := by decide +kernel
theorem dX2_weight_121 : decode cX2_weight 121 = .ok (.ireturn, 1) := by decide +kernel
set_option maxHeartbeats 4000000 in
theorem met_weight (l : Launch) (D : va_G) (E : Nat → ClassId) (A : Nat → Prop) (h : Nat) (ad : Nat → Nat) (I : Nat → Int) (F : Nat → Int → Int) (ms : Int) (r_ms : R32 ms) (pl : Int) (r_pl : R32 pl) (ht : Int) (r_ht : R32 ht) (mk : Int) (r_mk : R32 mk) (gl : gLoad I F) : MM l yX2_weight cX2_weight 5 (some .int) (mrm 1) D E A h ad [.int (iI ms), .int (iI pl), .int (iI ht), .int (iI mk)] I F (MQi D E A h ad (fun z I1 F1 => (((1 ≤ ms ∧ ms ≤ 500) ∧ (-19 ≤ pl ∧ pl ≤ 19) ∧ (0 ≤ ht ∧ ht ≤ 40) ∧ (-1 ≤ mk ∧ mk ≤ 80) ∧ I 4 ≠ 12) ∧ I 4 = z ∧ va_up I 4 (I 4 + 1) = I1 ∧ upF (upF (upF (upF (upF F 5 (I 4) ms) 6 (I 4) pl) 27 (I 4) pl) 7 (I 4) ht) 8 (I 4) mk = F1) ∨ (¬ ((1 ≤ ms ∧ ms ≤ 500) ∧ (-19 ≤ pl ∧ pl ≤ 19) ∧ (0 ≤ ht ∧ ht ≤ 40) ∧ (-1 ≤ mk ∧ mk ≤ 80) ∧ I 4 ≠ 12) ∧ -1 = z ∧ I = I1 ∧ F = F1))) := by
  refine m_start (by decide) rfl (Nat.le_of_ble_eq_true rfl) ?_
  intro p e R s m args below meth c ls Q hR hQ hC hml hr hlk hM hS hl
  have hx := hC.1
  have hb := hC.2.1
  have hown := hC.2.2.1
  have hts := hC.2.2.2.1
  have hl : lv_has ls 5 [(0, .ref h), (1, .int (iI ms)), (2, .int (iI pl)), (3, .int (iI ht)), (4, .int (iI mk))] := hl
  obtain ⟨i4, a5, a6, a7, a8, a9, i10, a11, a12, a13, a14, a14h⟩ := gl
  refine lv_iload_n hx hb dX2_weight_0 rfl (lv_at hl 1 rfl) ?_
  refine r_iconst hx hb dX2_weight_1 ?_
  refine r_sipush hx hb dX2_weight_2 (by decide) ?_
  refine s_calli (kX2_X2_in (rest := []) (as := [.int (iI ms), .int (iI 1), .int (iI 500)]) hx hb hml hown hts (met_in l ms 1 500 r_ms (by decide) (by decide)) ⟨rfl, rfl⟩ hR (by decide) rfl hl.1 rfl (Nat.le_of_ble_eq_true rfl) dX2_weight_5) ?_
  refine r_ifeqB (tgt := 52) hx hb dX2_weight_8 (by decide) (fun c1 => ?_) (fun c1 => ?_)
  · refine r_iconst hx hb dX2_weight_52 ?_
    exact m_iret hC hQ hr hlk hM hS dX2_weight_53 (Or.inr ⟨by omega, rfl, rfl, rfl⟩)
  · refine lv_iload_n hx hb dX2_weight_11 rfl (lv_at hl 2 rfl) ?_
    refine r_bipush hx hb dX2_weight_12 (by decide) ?_
    refine r_bipush hx hb dX2_weight_14 (by decide) ?_
    refine s_calli (kX2_X2_in (rest := []) (as := [.int (iI pl), .int (iI (-19)), .int (iI 19)]) hx hb hml hown hts (met_in l pl (-19) 19 r_pl (by decide) (by decide)) ⟨rfl, rfl⟩ hR (by decide) rfl hl.1 rfl (Nat.le_of_ble_eq_true rfl) dX2_weight_16) ?_
    refine r_ifeqB (tgt := 52) hx hb dX2_weight_19 (by decide) (fun c2 => ?_) (fun c2 => ?_)
    · refine r_iconst hx hb dX2_weight_52 ?_
      exact m_iret hC hQ hr hlk hM hS dX2_weight_53 (Or.inr ⟨by omega, rfl, rfl, rfl⟩)
    · refine lv_iload_n hx hb dX2_weight_22 rfl (lv_at hl 3 rfl) ?_
      refine r_iconst hx hb dX2_weight_23 ?_
      refine r_bipush hx hb dX2_weight_24 (by decide) ?_
      refine s_calli (kX2_X2_in (rest := []) (as := [.int (iI ht), .int (iI 0), .int (iI 40)]) hx hb hml hown hts (met_in l ht 0 40 r_ht (by decide) (by decide)) ⟨rfl, rfl⟩ hR (by decide) rfl hl.1 rfl (Nat.le_of_ble_eq_true rfl) dX2_weight_26) ?_
      refine r_ifeqB (tgt := 52) hx hb dX2_weight_29 (by decide) (fun c3 => ?_) (fun c3 => ?_)
      · refine r_iconst hx hb dX2_weight_52 ?_
        exact m_iret hC hQ hr hlk hM hS dX2_weight_53 (Or.inr ⟨by omega, rfl, rfl, rfl⟩)
      · refine lv_iload hx hb dX2_weight_32 (lv_at hl 4 rfl) ?_
        refine r_iconst hx hb dX2_weight_34 ?_
        refine r_bipush hx hb dX2_weight_35 (by decide) ?_
        refine s_calli (kX2_X2_in (rest := []) (as := [.int (iI mk), .int (iI (-1)), .int (iI 80)]) hx hb hml hown hts (met_in l mk (-1) 80 r_mk (by decide) (by decide)) ⟨rfl, rfl⟩ hR (by decide) rfl hl.1 rfl (Nat.le_of_ble_eq_true rfl) dX2_weight_37) ?_
        refine r_ifeqB (tgt := 52) hx hb dX2_weight_40 (by decide) (fun c4 => ?_) (fun c4 => ?_)
        · refine r_iconst hx hb dX2_weight_52 ?_
          exact m_iret hC hQ hr hlk hM hS dX2_weight_53 (Or.inr ⟨by omega, rfl, rfl, rfl⟩)
        · refine lv_aload_n hx hb dX2_weight_43 rfl (lv_at hl 0 rfl) ?_
          refine mg_4 (v := I 4) hC hM rfl dX2_weight_44 ?_
          refine r_bipush hx hb dX2_weight_47 (by decide) ?_
          refine r_icmp_ne (tgt := 54) hx hb dX2_weight_49 (by decide) (by omega) (by decide) (fun c5 => ?_) (fun c5 => ?_)
          · refine lv_aload_n hx hb dX2_weight_54 rfl (lv_at hl 0 rfl) ?_
            refine mg_5 hC hM dX2_weight_55 ?_
            refine lv_aload_n hx hb dX2_weight_58 rfl (lv_at hl 0 rfl) ?_
            refine mg_4 (v := I 4) hC hM rfl dX2_weight_59 ?_
            refine lv_iload_n hx hb dX2_weight_62 rfl (lv_at hl 1 rfl) ?_
            refine ms_5 (v := ms) hC hM hS (by omega) dX2_weight_63 (fun H locs hM hS => ?_)
            refine lv_aload_n hx hb dX2_weight_64 rfl (lv_at hl 0 rfl) ?_
            refine mg_6 hC hM dX2_weight_65 ?_
            refine lv_aload_n hx hb dX2_weight_68 rfl (lv_at hl 0 rfl) ?_
            refine mg_4 (v := I 4) hC hM rfl dX2_weight_69 ?_
            refine lv_iload_n hx hb dX2_weight_72 rfl (lv_at hl 2 rfl) ?_
            refine ms_6 (v := pl) hC hM hS (by omega) dX2_weight_73 (fun H locs hM hS => ?_)
            refine lv_aload_n hx hb dX2_weight_74 rfl (lv_at hl 0 rfl) ?_
            refine mg_27 hC hM dX2_weight_75 ?_
            refine lv_aload_n hx hb dX2_weight_78 rfl (lv_at hl 0 rfl) ?_
            refine mg_4 (v := I 4) hC hM rfl dX2_weight_79 ?_
            refine lv_iload_n hx hb dX2_weight_82 rfl (lv_at hl 2 rfl) ?_
            refine ms_27 (v := pl) hC hM hS (by omega) dX2_weight_83 (fun H locs hM hS => ?_)
            refine lv_aload_n hx hb dX2_weight_84 rfl (lv_at hl 0 rfl) ?_
            refine mg_7 hC hM dX2_weight_85 ?_
            refine lv_aload_n hx hb dX2_weight_88 rfl (lv_at hl 0 rfl) ?_
            refine mg_4 (v := I 4) hC hM rfl dX2_weight_89 ?_
            refine lv_iload_n hx hb dX2_weight_92 rfl (lv_at hl 3 rfl) ?_
            refine ms_7 (v := ht) hC hM hS (by omega) dX2_weight_93 (fun H locs hM hS => ?_)
            refine lv_aload_n hx hb dX2_weight_94 rfl (lv_at hl 0 rfl) ?_
            refine mg_8 hC hM dX2_weight_95 ?_
            refine lv_aload_n hx hb dX2_weight_98 rfl (lv_at hl 0 rfl) ?_
            refine mg_4 (v := I 4) hC hM rfl dX2_weight_99 ?_
            refine lv_iload hx hb dX2_weight_102 (lv_at hl 4 rfl) ?_
            refine ms_8 (v := mk) hC hM hS (by omega) dX2_weight_104 (fun H locs hM hS => ?_)
            refine lv_aload_n hx hb dX2_weight_105 rfl (lv_at hl 0 rfl) ?_
            refine lv_dup hx hb dX2_weight_106 rfl ?_
            refine mg_4 (v := I 4) hC hM rfl dX2_weight_107 ?_
            refine r_iconst hx hb dX2_weight_110 ?_
            refine r_iadd hx hb dX2_weight_111 ?_
            refine mp_4 hC hM hS dX2_weight_112 (fun H locs hM hS => ?_)
            refine lv_aload_n hx hb dX2_weight_115 rfl (lv_at hl 0 rfl) ?_
            refine mg_4 (v := (I 4) + 1) hC hM rfl dX2_weight_116 ?_
            refine r_iconst hx hb dX2_weight_119 ?_
            refine r_isub hx hb dX2_weight_120 ?_
            exact m_iret hC hQ hr hlk hM hS dX2_weight_121 (Or.inl ⟨by omega, by omega, rfl, rfl⟩)
          · refine r_iconst hx hb dX2_weight_52 ?_
            exact m_iret hC hQ hr hlk hM hS dX2_weight_53 (Or.inr ⟨by omega, rfl, rfl, rfl⟩)
theorem dX2_mark_0 : decode cX2_mark 0 = .ok (.iload_n 1, 1) := by decide +kernel
theorem dX2_mark_1 : decode cX2_mark 1 = .ok (.bipush (-19), 2) := by decide +kernel
theorem dX2_mark_3 : decode cX2_mark 3 = .ok (.bipush 19, 2) := by decide +kernel
theorem dX2_mark_5 : decode cX2_mark 5 = .ok (.invokestatic 173, 3) := by decide +kernel
theorem dX2_mark_8 : decode cX2_mark 8 = .ok (.ifCond .eq 22, 3) := by decide +kernel
theorem dX2_mark_11 : decode cX2_mark 11 = .ok (.iload_n 2, 1) := by decide +kernel
theorem dX2_mark_12 : decode cX2_mark 12 = .ok (.iconst 0, 1) := by decide +kernel
theorem dX2_mark_13 : decode cX2_mark 13 = .ok (.bipush 40, 2) := by decide +kernel
theorem dX2_mark_15 : decode cX2_mark 15 = .ok (.invokestatic 173, 3) := by decide +kernel
theorem dX2_mark_18 : decode cX2_mark 18 = .ok (.ifCond .eq 12, 3) := by decide +kernel
theorem dX2_mark_21 : decode cX2_mark 21 = .ok (.aload_n 0, 1) := by decide +kernel
theorem dX2_mark_22 : decode cX2_mark 22 = .ok (.getfield 191, 3) := by decide +kernel
theorem dX2_mark_25 : decode cX2_mark 25 = .ok (.bipush 6, 2) := by decide +kernel
theorem dX2_mark_27 : decode cX2_mark 27 = .ok (.if_icmp .ne 5, 3) := by decide +kernel
theorem dX2_mark_30 : decode cX2_mark 30 = .ok (.iconst (-1), 1) := by decide +kernel
theorem dX2_mark_31 : decode cX2_mark 31 = .ok (.ireturn, 1) := by decide +kernel
theorem dX2_mark_32 : decode cX2_mark 32 = .ok (.aload_n 0, 1) := by decide +kernel
theorem dX2_mark_33 : decode cX2_mark 33 = .ok (.getfield 47, 3) := by decide +kernel
theorem dX2_mark_36 : decode cX2_mark 36 = .ok (.aload_n 0, 1) := by decide +kernel
theorem dX2_mark_37 : decode cX2_mark 37 = .ok (.getfield 191, 3) := by decide +kernel
theorem dX2_mark_40 : decode cX2_mark 40 = .ok (.iload_n 1, 1) := by decide +kernel
theorem dX2_mark_41 : decode cX2_mark 41 = .ok (.iastore, 1) := by decide +kernel
theorem dX2_mark_42 : decode cX2_mark 42 = .ok (.aload_n 0, 1) := by decide +kernel
theorem dX2_mark_43 : decode cX2_mark 43 = .ok (.getfield 50, 3) := by decide +kernel
theorem dX2_mark_46 : decode cX2_mark 46 = .ok (.aload_n 0, 1) := by decide +kernel
theorem dX2_mark_47 : decode cX2_mark 47 = .ok (.getfield 191, 3) := by decide +kernel
theorem dX2_mark_50 : decode cX2_mark 50 = .ok (.iload_n 2, 1) := by decide +kernel
theorem dX2_mark_51 : decode cX2_mark 51 = .ok (.iastore, 1) := by decide +kernel
theorem dX2_mark_52 : decode cX2_mark 52 = .ok (.aload_n 0, 1) := by decide +kernel
theorem dX2_mark_53 : decode cX2_mark 53 = .ok (.dup, 1) := by decide +kernel
theorem dX2_mark_54 : decode cX2_mark 54 = .ok (.getfield 191, 3) := by decide +kernel
theorem dX2_mark_57 : decode cX2_mark 57 = .ok (.iconst 1, 1) := by decide +kernel
theorem dX2_mark_58 : decode cX2_mark 58 = .ok (.iadd, 1) := by decide +kernel
theorem dX2_mark_59 : decode cX2_mark 59 = .ok (.putfield 191, 3) := by decide +kernel
theorem dX2_mark_62 : decode cX2_mark 62 = .ok (.aload_n 0, 1) := by decide +kernel
theorem dX2_mark_63 : decode cX2_mark 63 = .ok (.getfield 191, 3) := by decide +kernel
theorem dX2_mark_66 : decode cX2_mark 66 = .ok (.iconst 1, 1) := by decide +kernel
theorem dX2_mark_67 : decode cX2_mark 67 = .ok (.isub, 1) := by decide +kernel
theorem dX2_mark_68 : decode cX2_mark 68 = .ok (.ireturn, 1) := by decide +kernel
set_option maxHeartbeats 4000000 in
theorem met_mark (l : Launch) (D : va_G) (E : Nat → ClassId) (A : Nat → Prop) (h : Nat) (ad : Nat → Nat) (I : Nat → Int) (F : Nat → Int → Int) (pl : Int) (r_pl : R32 pl) (ht : Int) (r_ht : R32 ht) (gl : gMark I F) : MM l yX2_mark cX2_mark 3 (some .int) (mrm 1) D E A h ad [.int (iI pl), .int (iI ht)] I F (MQi D E A h ad (fun z I1 F1 => (((-19 ≤ pl ∧ pl ≤ 19) ∧ (0 ≤ ht ∧ ht ≤ 40) ∧ I 15 ≠ 6) ∧ I 15 = z ∧ va_up I 15 (I 15 + 1) = I1 ∧ upF (upF F 16 (I 15) pl) 17 (I 15) ht = F1) ∨ (¬ ((-19 ≤ pl ∧ pl ≤ 19) ∧ (0 ≤ ht ∧ ht ≤ 40) ∧ I 15 ≠ 6) ∧ -1 = z ∧ I = I1 ∧ F = F1))) := by
  refine m_start (by decide) rfl (Nat.le_of_ble_eq_true rfl) ?_
  intro p e R s m args below meth c ls Q hR hQ hC hml hr hlk hM hS hl
  have hx := hC.1
  have hb := hC.2.1
  have hown := hC.2.2.1
  have hts := hC.2.2.2.1
  have hl : lv_has ls 3 [(0, .ref h), (1, .int (iI pl)), (2, .int (iI ht))] := hl
  obtain ⟨i15, a16, a17⟩ := gl
  refine lv_iload_n hx hb dX2_mark_0 rfl (lv_at hl 1 rfl) ?_
  refine r_bipush hx hb dX2_mark_1 (by decide) ?_
  refine r_bipush hx hb dX2_mark_3 (by decide) ?_
  refine s_calli (kX2_X2_in (rest := []) (as := [.int (iI pl), .int (iI (-19)), .int (iI 19)]) hx hb hml hown hts (met_in l pl (-19) 19 r_pl (by decide) (by decide)) ⟨rfl, rfl⟩ hR (by decide) rfl hl.1 rfl (Nat.le_of_ble_eq_true rfl) dX2_mark_5) ?_
  refine r_ifeqB (tgt := 30) hx hb dX2_mark_8 (by decide) (fun c1 => ?_) (fun c1 => ?_)
  · refine r_iconst hx hb dX2_mark_30 ?_
    exact m_iret hC hQ hr hlk hM hS dX2_mark_31 (Or.inr ⟨by omega, rfl, rfl, rfl⟩)
  · refine lv_iload_n hx hb dX2_mark_11 rfl (lv_at hl 2 rfl) ?_
    refine r_iconst hx hb dX2_mark_12 ?_
    refine r_bipush hx hb dX2_mark_13 (by decide) ?_
    refine s_calli (kX2_X2_in (rest := []) (as := [.int (iI ht), .int (iI 0), .int (iI 40)]) hx hb hml hown hts (met_in l ht 0 40 r_ht (by decide) (by decide)) ⟨rfl, rfl⟩ hR (by decide) rfl hl.1 rfl (Nat.le_of_ble_eq_true rfl) dX2_mark_15) ?_
    refine r_ifeqB (tgt := 30) hx hb dX2_mark_18 (by decide) (fun c2 => ?_) (fun c2 => ?_)
    · refine r_iconst hx hb dX2_mark_30 ?_
      exact m_iret hC hQ hr hlk hM hS dX2_mark_31 (Or.inr ⟨by omega, rfl, rfl, rfl⟩)
    · refine lv_aload_n hx hb dX2_mark_21 rfl (lv_at hl 0 rfl) ?_
      refine mg_15 (v := I 15) hC hM rfl dX2_mark_22 ?_
      refine r_bipush hx hb dX2_mark_25 (by decide) ?_
      refine r_icmp_ne (tgt := 32) hx hb dX2_mark_27 (by decide) (by omega) (by decide) (fun c3 => ?_) (fun c3 => ?_)
      · refine lv_aload_n hx hb dX2_mark_32 rfl (lv_at hl 0 rfl) ?_
        refine mg_16 hC hM dX2_mark_33 ?_
        refine lv_aload_n hx hb dX2_mark_36 rfl (lv_at hl 0 rfl) ?_
        refine mg_15 (v := I 15) hC hM rfl dX2_mark_37 ?_
        refine lv_iload_n hx hb dX2_mark_40 rfl (lv_at hl 1 rfl) ?_
        refine ms_16 (v := pl) hC hM hS (by omega) dX2_mark_41 (fun H locs hM hS => ?_)
        refine lv_aload_n hx hb dX2_mark_42 rfl (lv_at hl 0 rfl) ?_
        refine mg_17 hC hM dX2_mark_43 ?_
        refine lv_aload_n hx hb dX2_mark_46 rfl (lv_at hl 0 rfl) ?_
        refine mg_15 (v := I 15) hC hM rfl dX2_mark_47 ?_
        refine lv_iload_n hx hb dX2_mark_50 rfl (lv_at hl 2 rfl) ?_
        refine ms_17 (v := ht) hC hM hS (by omega) dX2_mark_51 (fun H locs hM hS => ?_)
        refine lv_aload_n hx hb dX2_mark_52 rfl (lv_at hl 0 rfl) ?_
        refine lv_dup hx hb dX2_mark_53 rfl ?_
        refine mg_15 (v := I 15) hC hM rfl dX2_mark_54 ?_
        refine r_iconst hx hb dX2_mark_57 ?_
        refine r_iadd hx hb dX2_mark_58 ?_
        refine mp_15 hC hM hS dX2_mark_59 (fun H locs hM hS => ?_)
        refine lv_aload_n hx hb dX2_mark_62 rfl (lv_at hl 0 rfl) ?_
        refine mg_15 (v := (I 15) + 1) hC hM rfl dX2_mark_63 ?_
        refine r_iconst hx hb dX2_mark_66 ?_
        refine r_isub hx hb dX2_mark_67 ?_
        exact m_iret hC hQ hr hlk hM hS dX2_mark_68 (Or.inl ⟨by omega, by omega, rfl, rfl⟩)
      · refine r_iconst hx hb dX2_mark_30 ?_
        exact m_iret hC hQ hr hlk hM hS dX2_mark_31 (Or.inr ⟨by omega, rfl, rfl, rfl⟩)
theorem dX2_wave_0 : decode cX2_wave 0 = .ok (.iload_n 1, 1) := by decide +kernel
theorem dX2_wave_1 : decode cX2_wave 1 = .ok (.iconst 1, 1) := by decide +kernel
theorem dX2_wave_2 : decode cX2_wave 2 = .ok (.bipush 60, 2) := by decide +kernel
theorem dX2_wave_4 : decode cX2_wave 4 = .ok (.invokestatic 173, 3) := by decide +kernel
theorem dX2_wave_7 : decode cX2_wave 7 = .ok (.ifCond .eq 32, 3) := by decide +kernel
theorem dX2_wave_10 : decode cX2_wave 10 = .ok (.iload_n 2, 1) := by decide +kernel
theorem dX2_wave_11 : decode cX2_wave 11 = .ok (.iconst 4, 1) := by decide +kernel
theorem dX2_wave_12 : decode cX2_wave 12 = .ok (.bipush 64, 2) := by decide +kernel
theorem dX2_wave_14 : decode cX2_wave 14 = .ok (.invokestatic 173, 3) := by decide +kernel
theorem dX2_wave_17 : decode cX2_wave 17 = .ok (.ifCond .eq 22, 3) := by decide +kernel
theorem dX2_wave_20 : decode cX2_wave 20 = .ok (.iload_n 3, 1) := by decide +kernel
theorem dX2_wave_21 : decode cX2_wave 21 = .ok (.iconst 0, 1) := by decide +kernel
theorem dX2_wave_22 : decode cX2_wave 22 = .ok (.bipush 15, 2) := by decide +kernel
theorem dX2_wave_24 : decode cX2_wave 24 = .ok (.invokestatic 173, 3) := by decide +kernel
theorem dX2_wave_27 : decode cX2_wave 27 = .ok (.ifCond .eq 12, 3) := by decide +kernel
theorem dX2_wave_30 : decode cX2_wave 30 = .ok (.aload_n 0, 1) := by decide +kernel
theorem dX2_wave_31 : decode cX2_wave 31 = .ok (.getfield 226, 3) := by decide +kernel
theorem dX2_wave_34 : decode cX2_wave 34 = .ok (.bipush 8, 2) := by decide +kernel
theorem dX2_wave_36 : decode cX2_wave 36 = .ok (.if_icmp .ne 5, 3) := by decide +kernel
theorem dX2_wave_39 : decode cX2_wave 39 = .ok (.iconst (-1), 1) := by decide +kernel
theorem dX2_wave_40 : decode cX2_wave 40 = .ok (.ireturn, 1) := by decide +kernel
theorem dX2_wave_41 : decode cX2_wave 41 = .ok (.aload_n 0, 1) := by decide +kernel
theorem dX2_wave_42 : decode cX2_wave 42 = .ok (.getfield 53, 3) := by decide +kernel
theorem dX2_wave_45 : decode cX2_wave 45 = .ok (.aload_n 0, 1) := by decide +kernel
theorem dX2_wave_46 : decode cX2_wave 46 = .ok (.getfield 226, 3) := by decide +kernel
theorem dX2_wave_49 : decode cX2_wave 49 = .ok (.iload_n 1, 1) := by decide +kernel
theorem dX2_wave_50 : decode cX2_wave 50 = .ok (.iastore, 1) := by decide +kernel
theorem dX2_wave_51 : decode cX2_wave 51 = .ok (.aload_n 0, 1) := by decide +kernel
theorem dX2_wave_52 : decode cX2_wave 52 = .ok (.getfield 56, 3) := by decide +kernel
theorem dX2_wave_55 : decode cX2_wave 55 = .ok (.aload_n 0, 1) := by decide +kernel
theorem dX2_wave_56 : decode cX2_wave 56 = .ok (.getfield 226, 3) := by decide +kernel
theorem dX2_wave_59 : decode cX2_wave 59 = .ok (.iload_n 2, 1) := by decide +kernel
theorem dX2_wave_60 : decode cX2_wave 60 = .ok (.iastore, 1) := by decide +kernel
theorem dX2_wave_61 : decode cX2_wave 61 = .ok (.aload_n 0, 1) := by decide +kernel
theorem dX2_wave_62 : decode cX2_wave 62 = .ok (.getfield 59, 3) := by decide +kernel
theorem dX2_wave_65 : decode cX2_wave 65 = .ok (.aload_n 0, 1) := by decide +kernel
theorem dX2_wave_66 : decode cX2_wave 66 = .ok (.getfield 226, 3) := by decide +kernel
theorem dX2_wave_69 : decode cX2_wave 69 = .ok (.iload_n 3, 1) := by decide +kernel
theorem dX2_wave_70 : decode cX2_wave 70 = .ok (.iastore, 1) := by decide +kernel
theorem dX2_wave_71 : decode cX2_wave 71 = .ok (.aload_n 0, 1) := by decide +kernel
theorem dX2_wave_72 : decode cX2_wave 72 = .ok (.dup, 1) := by decide +kernel
theorem dX2_wave_73 : decode cX2_wave 73 = .ok (.getfield 226, 3) := by decide +kernel
theorem dX2_wave_76 : decode cX2_wave 76 = .ok (.iconst 1, 1) := by decide +kernel
theorem dX2_wave_77 : decode cX2_wave 77 = .ok (.iadd, 1) := by decide +kernel
theorem dX2_wave_78 : decode cX2_wave 78 = .ok (.putfield 226, 3) := by decide +kernel
theorem dX2_wave_81 : decode cX2_wave 81 = .ok (.aload_n 0, 1) := by decide +kernel
theorem dX2_wave_82 : decode cX2_wave 82 = .ok (.getfield 226, 3) := by decide +kernel
theorem dX2_wave_85 : decode cX2_wave 85 = .ok (.iconst 1, 1) := by decide +kernel
theorem dX2_wave_86 : decode cX2_wave 86 = .ok (.isub, 1) := by decide +kernel
theorem dX2_wave_87 : decode cX2_wave 87 = .ok (.ireturn, 1) := by decide +kernel
set_option maxHeartbeats 4000000 in
theorem met_wave (l : Launch) (D : va_G) (E : Nat → ClassId) (A : Nat → Prop) (h : Nat) (ad : Nat → Nat) (I : Nat → Int) (F : Nat → Int → Int) (ht : Int) (r_ht : R32 ht) (pr : Int) (r_pr : R32 pr) (ph : Int) (r_ph : R32 ph) (gl : gSea I F) : MM l yX2_wave cX2_wave 4 (some .int) (mrm 1) D E A h ad [.int (iI ht), .int (iI pr), .int (iI ph)] I F (MQi D E A h ad (fun z I1 F1 => (((1 ≤ ht ∧ ht ≤ 60) ∧ (4 ≤ pr ∧ pr ≤ 64) ∧ (0 ≤ ph ∧ ph ≤ 15) ∧ I 18 ≠ 8) ∧ I 18 = z ∧ va_up I 18 (I 18 + 1) = I1 ∧ upF (upF (upF F 19 (I 18) ht) 20 (I 18) pr) 21 (I 18) ph = F1) ∨ (¬ ((1 ≤ ht ∧ ht ≤ 60) ∧ (4 ≤ pr ∧ pr ≤ 64) ∧ (0 ≤ ph ∧ ph ≤ 15) ∧ I 18 ≠ 8) ∧ -1 = z ∧ I = I1 ∧ F = F1))) := by
  refine m_start (by decide) rfl (Nat.le_of_ble_eq_true rfl) ?_
  intro p e R s m args below meth c ls Q hR hQ hC hml hr hlk hM hS hl
  have hx := hC.1
  have hb := hC.2.1
  have hown := hC.2.2.1
  have hts := hC.2.2.2.1
  have hl : lv_has ls 4 [(0, .ref h), (1, .int (iI ht)), (2, .int (iI pr)), (3, .int (iI ph))] := hl
  obtain ⟨i18, a0, a19, a20, a21⟩ := gl
  refine lv_iload_n hx hb dX2_wave_0 rfl (lv_at hl 1 rfl) ?_
  refine r_iconst hx hb dX2_wave_1 ?_
  refine r_bipush hx hb dX2_wave_2 (by decide) ?_
  refine s_calli (kX2_X2_in (rest := []) (as := [.int (iI ht), .int (iI 1), .int (iI 60)]) hx hb hml hown hts (met_in l ht 1 60 r_ht (by decide) (by decide)) ⟨rfl, rfl⟩ hR (by decide) rfl hl.1 rfl (Nat.le_of_ble_eq_true rfl) dX2_wave_4) ?_
  refine r_ifeqB (tgt := 39) hx hb dX2_wave_7 (by decide) (fun c1 => ?_) (fun c1 => ?_)
  · refine r_iconst hx hb dX2_wave_39 ?_
    exact m_iret hC hQ hr hlk hM hS dX2_wave_40 (Or.inr ⟨by omega, rfl, rfl, rfl⟩)
  · refine lv_iload_n hx hb dX2_wave_10 rfl (lv_at hl 2 rfl) ?_
    refine r_iconst hx hb dX2_wave_11 ?_
    refine r_bipush hx hb dX2_wave_12 (by decide) ?_
    refine s_calli (kX2_X2_in (rest := []) (as := [.int (iI pr), .int (iI 4), .int (iI 64)]) hx hb hml hown hts (met_in l pr 4 64 r_pr (by decide) (by decide)) ⟨rfl, rfl⟩ hR (by decide) rfl hl.1 rfl (Nat.le_of_ble_eq_true rfl) dX2_wave_14) ?_
    refine r_ifeqB (tgt := 39) hx hb dX2_wave_17 (by decide) (fun c2 => ?_) (fun c2 => ?_)
    · refine r_iconst hx hb dX2_wave_39 ?_
      exact m_iret hC hQ hr hlk hM hS dX2_wave_40 (Or.inr ⟨by omega, rfl, rfl, rfl⟩)
    · refine lv_iload_n hx hb dX2_wave_20 rfl (lv_at hl 3 rfl) ?_
      refine r_iconst hx hb dX2_wave_21 ?_
      refine r_bipush hx hb dX2_wave_22 (by decide) ?_
      refine s_calli (kX2_X2_in (rest := []) (as := [.int (iI ph), .int (iI 0), .int (iI 15)]) hx hb hml hown hts (met_in l ph 0 15 r_ph (by decide) (by decide)) ⟨rfl, rfl⟩ hR (by decide) rfl hl.1 rfl (Nat.le_of_ble_eq_true rfl) dX2_wave_24) ?_
      refine r_ifeqB (tgt := 39) hx hb dX2_wave_27 (by decide) (fun c3 => ?_) (fun c3 => ?_)
      · refine r_iconst hx hb dX2_wave_39 ?_
        exact m_iret hC hQ hr hlk hM hS dX2_wave_40 (Or.inr ⟨by omega, rfl, rfl, rfl⟩)
      · refine lv_aload_n hx hb dX2_wave_30 rfl (lv_at hl 0 rfl) ?_
        refine mg_18 (v := I 18) hC hM rfl dX2_wave_31 ?_
        refine r_bipush hx hb dX2_wave_34 (by decide) ?_
        refine r_icmp_ne (tgt := 41) hx hb dX2_wave_36 (by decide) (by omega) (by decide) (fun c4 => ?_) (fun c4 => ?_)
        · refine lv_aload_n hx hb dX2_wave_41 rfl (lv_at hl 0 rfl) ?_
          refine mg_19 hC hM dX2_wave_42 ?_
          refine lv_aload_n hx hb dX2_wave_45 rfl (lv_at hl 0 rfl) ?_
          refine mg_18 (v := I 18) hC hM rfl dX2_wave_46 ?_
          refine lv_iload_n hx hb dX2_wave_49 rfl (lv_at hl 1 rfl) ?_
          refine ms_19 (v := ht) hC hM hS (by omega) dX2_wave_50 (fun H locs hM hS => ?_)
          refine lv_aload_n hx hb dX2_wave_51 rfl (lv_at hl 0 rfl) ?_
          refine mg_20 hC hM dX2_wave_52 ?_
          refine lv_aload_n hx hb dX2_wave_55 rfl (lv_at hl 0 rfl) ?_
          refine mg_18 (v := I 18) hC hM rfl dX2_wave_56 ?_
          refine lv_iload_n hx hb dX2_wave_59 rfl (lv_at hl 2 rfl) ?_
          refine ms_20 (v := pr) hC hM hS (by omega) dX2_wave_60 (fun H locs hM hS => ?_)
          refine lv_aload_n hx hb dX2_wave_61 rfl (lv_at hl 0 rfl) ?_
          refine mg_21 hC hM dX2_wave_62 ?_
          refine lv_aload_n hx hb dX2_wave_65 rfl (lv_at hl 0 rfl) ?_
          refine mg_18 (v := I 18) hC hM rfl dX2_wave_66 ?_
          refine lv_iload_n hx hb dX2_wave_69 rfl (lv_at hl 3 rfl) ?_
          refine ms_21 (v := ph) hC hM hS (by omega) dX2_wave_70 (fun H locs hM hS => ?_)
          refine lv_aload_n hx hb dX2_wave_71 rfl (lv_at hl 0 rfl) ?_
          refine lv_dup hx hb dX2_wave_72 rfl ?_
          refine mg_18 (v := I 18) hC hM rfl dX2_wave_73 ?_
          refine r_iconst hx hb dX2_wave_76 ?_
          refine r_iadd hx hb dX2_wave_77 ?_
          refine mp_18 hC hM hS dX2_wave_78 (fun H locs hM hS => ?_)
          refine lv_aload_n hx hb dX2_wave_81 rfl (lv_at hl 0 rfl) ?_
          refine mg_18 (v := (I 18) + 1) hC hM rfl dX2_wave_82 ?_
          refine r_iconst hx hb dX2_wave_85 ?_
          refine r_isub hx hb dX2_wave_86 ?_
          exact m_iret hC hQ hr hlk hM hS dX2_wave_87 (Or.inl ⟨by omega, by omega, rfl, rfl⟩)
        · refine r_iconst hx hb dX2_wave_39 ?_
          exact m_iret hC hQ hr hlk hM hS dX2_wave_40 (Or.inr ⟨by omega, rfl, rfl, rfl⟩)
theorem dX2_hour_0 : decode cX2_hour 0 = .ok (.iload_n 1, 1) := by decide +kernel
theorem dX2_hour_1 : decode cX2_hour 1 = .ok (.iconst 0, 1) := by decide +kernel
theorem dX2_hour_2 : decode cX2_hour 2 = .ok (.bipush 60, 2) := by decide +kernel
theorem dX2_hour_4 : decode cX2_hour 4 = .ok (.invokestatic 173, 3) := by decide +kernel
theorem dX2_hour_7 : decode cX2_hour 7 = .ok (.ifCond .eq 22, 3) := by decide +kernel
theorem dX2_hour_10 : decode cX2_hour 10 = .ok (.iload_n 2, 1) := by decide +kernel
theorem dX2_hour_11 : decode cX2_hour 11 = .ok (.iconst 4, 1) := by decide +kernel
theorem dX2_hour_12 : decode cX2_hour 12 = .ok (.bipush 64, 2) := by decide +kernel
theorem dX2_hour_14 : decode cX2_hour 14 = .ok (.invokestatic 173, 3) := by decide +kernel
theorem dX2_hour_17 : decode cX2_hour 17 = .ok (.ifCond .eq 12, 3) := by decide +kernel
theorem dX2_hour_20 : decode cX2_hour 20 = .ok (.aload_n 0, 1) := by decide +kernel
theorem dX2_hour_21 : decode cX2_hour 21 = .ok (.getfield 368, 3) := by decide +kernel
theorem dX2_hour_24 : decode cX2_hour 24 = .ok (.bipush 12, 2) := by decide +kernel
theorem dX2_hour_26 : decode cX2_hour 26 = .ok (.if_icmp .ne 5, 3) := by decide +kernel
theorem dX2_hour_29 : decode cX2_hour 29 = .ok (.iconst (-1), 1) := by decide +kernel
theorem dX2_hour_30 : decode cX2_hour 30 = .ok (.ireturn, 1) := by decide +kernel
theorem dX2_hour_31 : decode cX2_hour 31 = .ok (.aload_n 0, 1) := by decide +kernel
theorem dX2_hour_32 : decode cX2_hour 32 = .ok (.getfield 114, 3) := by decide +kernel
theorem dX2_hour_35 : decode cX2_hour 35 = .ok (.aload_n 0, 1) := by decide +kernel
theorem dX2_hour_36 : decode cX2_hour 36 = .ok (.getfield 368, 3) := by decide +kernel
theorem dX2_hour_39 : decode cX2_hour 39 = .ok (.iload_n 1, 1) := by decide +kernel
theorem dX2_hour_40 : decode cX2_hour 40 = .ok (.iastore, 1) := by decide +kernel
theorem dX2_hour_41 : decode cX2_hour 41 = .ok (.aload_n 0, 1) := by decide +kernel
theorem dX2_hour_42 : decode cX2_hour 42 = .ok (.getfield 117, 3) := by decide +kernel
theorem dX2_hour_45 : decode cX2_hour 45 = .ok (.aload_n 0, 1) := by decide +kernel
theorem dX2_hour_46 : decode cX2_hour 46 = .ok (.getfield 368, 3) := by decide +kernel
theorem dX2_hour_49 : decode cX2_hour 49 = .ok (.iload_n 2, 1) := by decide +kernel
theorem dX2_hour_50 : decode cX2_hour 50 = .ok (.iastore, 1) := by decide +kernel
theorem dX2_hour_51 : decode cX2_hour 51 = .ok (.aload_n 0, 1) := by decide +kernel
theorem dX2_hour_52 : decode cX2_hour 52 = .ok (.dup, 1) := by decide +kernel
theorem dX2_hour_53 : decode cX2_hour 53 = .ok (.getfield 368, 3) := by decide +kernel
theorem dX2_hour_56 : decode cX2_hour 56 = .ok (.iconst 1, 1) := by decide +kernel
theorem dX2_hour_57 : decode cX2_hour 57 = .ok (.iadd, 1) := by decide +kernel
theorem dX2_hour_58 : decode cX2_hour 58 = .ok (.putfield 368, 3) := by decide +kernel
theorem dX2_hour_61 : decode cX2_hour 61 = .ok (.aload_n 0, 1) := by decide +kernel
theorem dX2_hour_62 : decode cX2_hour 62 = .ok (.getfield 368, 3) := by decide +kernel
theorem dX2_hour_65 : decode cX2_hour 65 = .ok (.ireturn, 1) := by decide +kernel
set_option maxHeartbeats 4000000 in
theorem met_hour (l : Launch) (D : va_G) (E : Nat → ClassId) (A : Nat → Prop) (h : Nat) (ad : Nat → Nat) (I : Nat → Int) (F : Nat → Int → Int) (ht : Int) (r_ht : R32 ht) (pr : Int) (r_pr : R32 pr) (gl : gWay I F) : MM l yX2_hour cX2_hour 3 (some .int) (mrm 1) D E A h ad [.int (iI ht), .int (iI pr)] I F (MQi D E A h ad (fun z I1 F1 => (((0 ≤ ht ∧ ht ≤ 60) ∧ (4 ≤ pr ∧ pr ≤ 64) ∧ I 41 ≠ 12) ∧ I 41 + 1 = z ∧ va_up I 41 (I 41 + 1) = I1 ∧ upF (upF F 42 (I 41) ht) 43 (I 41) pr = F1) ∨ (¬ ((0 ≤ ht ∧ ht ≤ 60) ∧ (4 ≤ pr ∧ pr ≤ 64) ∧ I 41 ≠ 12) ∧ -1 = z ∧ I = I1 ∧ F = F1))) := by
  refine m_start (by decide) rfl (Nat.le_of_ble_eq_true rfl) ?_
  intro p e R s m args below meth c ls Q hR hQ hC hml hr hlk hM hS hl
  have hx := hC.1
  have hb := hC.2.1
  have hown := hC.2.2.1
  have hts := hC.2.2.2.1
  have hl : lv_has ls 3 [(0, .ref h), (1, .int (iI ht)), (2, .int (iI pr))] := hl
  obtain ⟨i41, i44, a42, a43⟩ := gl
  refine lv_iload_n hx hb dX2_hour_0 rfl (lv_at hl 1 rfl) ?_
  refine r_iconst hx hb dX2_hour_1 ?_
  refine r_bipush hx hb dX2_hour_2 (by decide) ?_
  refine s_calli (kX2_X2_in (rest := []) (as := [.int (iI ht), .int (iI 0), .int (iI 60)]) hx hb hml hown hts (met_in l ht 0 60 r_ht (by decide) (by decide)) ⟨rfl, rfl⟩ hR (by decide) rfl hl.1 rfl (Nat.le_of_ble_eq_true rfl) dX2_hour_4) ?_
  refine r_ifeqB (tgt := 29) hx hb dX2_hour_7 (by decide) (fun c1 => ?_) (fun c1 => ?_)
  · refine r_iconst hx hb dX2_hour_29 ?_
    exact m_iret hC hQ hr hlk hM hS dX2_hour_30 (Or.inr ⟨by omega, rfl, rfl, rfl⟩)
  · refine lv_iload_n hx hb dX2_hour_10 rfl (lv_at hl 2 rfl) ?_
    refine r_iconst hx hb dX2_hour_11 ?_
    refine r_bipush hx hb dX2_hour_12 (by decide) ?_
    refine s_calli (kX2_X2_in (rest := []) (as := [.int (iI pr), .int (iI 4), .int (iI 64)]) hx hb hml hown hts (met_in l pr 4 64 r_pr (by decide) (by decide)) ⟨rfl, rfl⟩ hR (by decide) rfl hl.1 rfl (Nat.le_of_ble_eq_true rfl) dX2_hour_14) ?_
    refine r_ifeqB (tgt := 29) hx hb dX2_hour_17 (by decide) (fun c2 => ?_) (fun c2 => ?_)
    · refine r_iconst hx hb dX2_hour_29 ?_
      exact m_iret hC hQ hr hlk hM hS dX2_hour_30 (Or.inr ⟨by omega, rfl, rfl, rfl⟩)
    · refine lv_aload_n hx hb dX2_hour_20 rfl (lv_at hl 0 rfl) ?_
      refine mg_41 (v := I 41) hC hM rfl dX2_hour_21 ?_
      refine r_bipush hx hb dX2_hour_24 (by decide) ?_
      refine r_icmp_ne (tgt := 31) hx hb dX2_hour_26 (by decide) (by omega) (by decide) (fun c3 => ?_) (fun c3 => ?_)
      · refine lv_aload_n hx hb dX2_hour_31 rfl (lv_at hl 0 rfl) ?_
        refine mg_42 hC hM dX2_hour_32 ?_
        refine lv_aload_n hx hb dX2_hour_35 rfl (lv_at hl 0 rfl) ?_
        refine mg_41 (v := I 41) hC hM rfl dX2_hour_36 ?_
        refine lv_iload_n hx hb dX2_hour_39 rfl (lv_at hl 1 rfl) ?_
        refine ms_42 (v := ht) hC hM hS (by omega) dX2_hour_40 (fun H locs hM hS => ?_)
        refine lv_aload_n hx hb dX2_hour_41 rfl (lv_at hl 0 rfl) ?_
        refine mg_43 hC hM dX2_hour_42 ?_
        refine lv_aload_n hx hb dX2_hour_45 rfl (lv_at hl 0 rfl) ?_
        refine mg_41 (v := I 41) hC hM rfl dX2_hour_46 ?_
        refine lv_iload_n hx hb dX2_hour_49 rfl (lv_at hl 2 rfl) ?_
        refine ms_43 (v := pr) hC hM hS (by omega) dX2_hour_50 (fun H locs hM hS => ?_)
        refine lv_aload_n hx hb dX2_hour_51 rfl (lv_at hl 0 rfl) ?_
        refine lv_dup hx hb dX2_hour_52 rfl ?_
        refine mg_41 (v := I 41) hC hM rfl dX2_hour_53 ?_
        refine r_iconst hx hb dX2_hour_56 ?_
        refine r_iadd hx hb dX2_hour_57 ?_
        refine mp_41 hC hM hS dX2_hour_58 (fun H locs hM hS => ?_)
        refine lv_aload_n hx hb dX2_hour_61 rfl (lv_at hl 0 rfl) ?_
        refine mg_41 (v := (I 41) + 1) hC hM rfl dX2_hour_62 ?_
        exact m_iret hC hQ hr hlk hM hS dX2_hour_65 (Or.inl ⟨by omega, by omega, rfl, rfl⟩)
      · refine r_iconst hx hb dX2_hour_29 ?_
        exact m_iret hC hQ hr hlk hM hS dX2_hour_30 (Or.inr ⟨by omega, rfl, rfl, rfl⟩)
theorem dX2_record_0 : decode cX2_record 0 = .ok (.iload_n 1, 1) := by decide +kernel
theorem dX2_record_1 : decode cX2_record 1 = .ok (.bipush (-80), 2) := by decide +kernel
theorem dX2_record_3 : decode cX2_record 3 = .ok (.bipush 80, 2) := by decide +kernel
theorem dX2_record_5 : decode cX2_record 5 = .ok (.invokestatic 173, 3) := by decide +kernel
theorem dX2_record_8 : decode cX2_record 8 = .ok (.ifCond .eq 12, 3) := by decide +kernel
theorem dX2_record_11 : decode cX2_record 11 = .ok (.aload_n 0, 1) := by decide +kernel
theorem dX2_record_12 : decode cX2_record 12 = .ok (.getfield 377, 3) := by decide +kernel
theorem dX2_record_15 : decode cX2_record 15 = .ok (.bipush 64, 2) := by decide +kernel
theorem dX2_record_17 : decode cX2_record 17 = .ok (.if_icmp .ne 5, 3) := by decide +kernel
theorem dX2_record_20 : decode cX2_record 20 = .ok (.iconst (-1), 1) := by decide +kernel
theorem dX2_record_21 : decode cX2_record 21 = .ok (.ireturn, 1) := by decide +kernel
theorem dX2_record_22 : decode cX2_record 22 = .ok (.aload_n 0, 1) := by decide +kernel
theorem dX2_record_23 : decode cX2_record 23 = .ok (.getfield 123, 3) := by decide +kernel
theorem dX2_record_26 : decode cX2_record 26 = .ok (.aload_n 0, 1) := by decide +kernel
theorem dX2_record_27 : decode cX2_record 27 = .ok (.getfield 377, 3) := by decide +kernel
theorem dX2_record_30 : decode cX2_record 30 = .ok (.iload_n 1, 1) := by decide +kernel
theorem dX2_record_31 : decode cX2_record 31 = .ok (.iastore, 1) := by decide +kernel
theorem dX2_record_32 : decode cX2_record 32 = .ok (.aload_n 0, 1) := by decide +kernel
theorem dX2_record_33 : decode cX2_record 33 = .ok (.dup, 1) := by decide +kernel
theorem dX2_record_34 : decode cX2_record 34 = .ok (.getfield 377, 3) := by decide +kernel
theorem dX2_record_37 : decode cX2_record 37 = .ok (.iconst 1, 1) := by decide +kernel
theorem dX2_record_38 : decode cX2_record 38 = .ok (.iadd, 1) := by decide +kernel
theorem dX2_record_39 : decode cX2_record 39 = .ok (.putfield 377, 3) := by decide +kernel
theorem dX2_record_42 : decode cX2_record 42 = .ok (.aload_n 0, 1) := by decide +kernel
theorem dX2_record_43 : decode cX2_record 43 = .ok (.getfield 377, 3) := by decide +kernel
theorem dX2_record_46 : decode cX2_record 46 = .ok (.ireturn, 1) := by decide +kernel
set_option maxHeartbeats 4000000 in
theorem met_record (l : Launch) (D : va_G) (E : Nat → ClassId) (A : Nat → Prop) (h : Nat) (ad : Nat → Nat) (I : Nat → Int) (F : Nat → Int → Int) (sl : Int) (r_sl : R32 sl) (gl : gRec I F) : MM l yX2_record cX2_record 2 (some .int) (mrm 1) D E A h ad [.int (iI sl)] I F (MQi D E A h ad (fun z I1 F1 => (((-80 ≤ sl ∧ sl ≤ 80) ∧ I 45 ≠ 64) ∧ I 45 + 1 = z ∧ va_up I 45 (I 45 + 1) = I1 ∧ upF F 46 (I 45) sl = F1) ∨ (¬ ((-80 ≤ sl ∧ sl ≤ 80) ∧ I 45 ≠ 64) ∧ -1 = z ∧ I = I1 ∧ F = F1))) := by
  refine m_start (by decide) rfl (Nat.le_of_ble_eq_true rfl) ?_
  intro p e R s m args below meth c ls Q hR hQ hC hml hr hlk hM hS hl
  have hx := hC.1
  have hb := hC.2.1
  have hown := hC.2.2.1
  have hts := hC.2.2.2.1
  have hl : lv_has ls 2 [(0, .ref h), (1, .int (iI sl))] := hl
  obtain ⟨i45, a46⟩ := gl
  refine lv_iload_n hx hb dX2_record_0 rfl (lv_at hl 1 rfl) ?_
  refine r_bipush hx hb dX2_record_1 (by decide) ?_
  refine r_bipush hx hb dX2_record_3 (by decide) ?_
  refine s_calli (kX2_X2_in (rest := []) (as := [.int (iI sl), .int (iI (-80)), .int (iI 80)]) hx hb hml hown hts (met_in l sl (-80) 80 r_sl (by decide) (by decide)) ⟨rfl, rfl⟩ hR (by decide) rfl hl.1 rfl (Nat.le_of_ble_eq_true rfl) dX2_record_5) ?_
  refine r_ifeqB (tgt := 20) hx hb dX2_record_8 (by decide) (fun c1 => ?_) (fun c1 => ?_)
  · refine r_iconst hx hb dX2_record_20 ?_
    exact m_iret hC hQ hr hlk hM hS dX2_record_21 (Or.inr ⟨by omega, rfl, rfl, rfl⟩)
  · refine lv_aload_n hx hb dX2_record_11 rfl (lv_at hl 0 rfl) ?_
    refine mg_45 (v := I 45) hC hM rfl dX2_record_12 ?_
    refine r_bipush hx hb dX2_record_15 (by decide) ?_
    refine r_icmp_ne (tgt := 22) hx hb dX2_record_17 (by decide) (by omega) (by decide) (fun c2 => ?_) (fun c2 => ?_)
    · refine lv_aload_n hx hb dX2_record_22 rfl (lv_at hl 0 rfl) ?_
      refine mg_46 hC hM dX2_record_23 ?_
      refine lv_aload_n hx hb dX2_record_26 rfl (lv_at hl 0 rfl) ?_
      refine mg_45 (v := I 45) hC hM rfl dX2_record_27 ?_
      refine lv_iload_n hx hb dX2_record_30 rfl (lv_at hl 1 rfl) ?_
      refine ms_46 (v := sl) hC hM hS (by omega) dX2_record_31 (fun H locs hM hS => ?_)
      refine lv_aload_n hx hb dX2_record_32 rfl (lv_at hl 0 rfl) ?_
      refine lv_dup hx hb dX2_record_33 rfl ?_
      refine mg_45 (v := I 45) hC hM rfl dX2_record_34 ?_
      refine r_iconst hx hb dX2_record_37 ?_
      refine r_iadd hx hb dX2_record_38 ?_
      refine mp_45 hC hM hS dX2_record_39 (fun H locs hM hS => ?_)
      refine lv_aload_n hx hb dX2_record_42 rfl (lv_at hl 0 rfl) ?_
      refine mg_45 (v := (I 45) + 1) hC hM rfl dX2_record_43 ?_
      exact m_iret hC hQ hr hlk hM hS dX2_record_46 (Or.inl ⟨by omega, by omega, rfl, rfl⟩)
    · refine r_iconst hx hb dX2_record_20 ?_
      exact m_iret hC hQ hr hlk hM hS dX2_record_21 (Or.inr ⟨by omega, rfl, rfl, rfl⟩)
theorem dX2_begin_0 : decode cX2_begin 0 = .ok (.iload_n 1, 1) := by decide +kernel
theorem dX2_begin_1 : decode cX2_begin 1 = .ok (.iconst 4, 1) := by decide +kernel
theorem dX2_begin_2 : decode cX2_begin 2 = .ok (.bipush 64, 2) := by decide +kernel
theorem dX2_begin_4 : decode cX2_begin 4 = .ok (.invokestatic 173, 3) := by decide +kernel
theorem dX2_begin_7 : decode cX2_begin 7 = .ok (.ifCond .ne 5, 3) := by decide +kernel
theorem dX2_begin_10 : decode cX2_begin 10 = .ok (.iconst (-1), 1) := by decide +kernel
theorem dX2_begin_11 : decode cX2_begin 11 = .ok (.ireturn, 1) := by decide +kernel
theorem dX2_begin_12 : decode cX2_begin 12 = .ok (.aload_n 0, 1) := by decide +kernel
theorem dX2_begin_13 : decode cX2_begin 13 = .ok (.getfield 368, 3) := by decide +kernel
theorem dX2_begin_16 : decode cX2_begin 16 = .ok (.istore_n 2, 1) := by decide +kernel
theorem dX2_begin_17 : decode cX2_begin 17 = .ok (.aload_n 0, 1) := by decide +kernel
theorem dX2_begin_18 : decode cX2_begin 18 = .ok (.iconst 0, 1) := by decide +kernel
theorem dX2_begin_19 : decode cX2_begin 19 = .ok (.putfield 368, 3) := by decide +kernel
theorem dX2_begin_22 : decode cX2_begin 22 = .ok (.aload_n 0, 1) := by decide +kernel
theorem dX2_begin_23 : decode cX2_begin 23 = .ok (.iload_n 1, 1) := by decide +kernel
theorem dX2_begin_24 : decode cX2_begin 24 = .ok (.putfield 120, 3) := by decide +kernel
theorem dX2_begin_27 : decode cX2_begin 27 = .ok (.iload_n 2, 1) := by decide +kernel
theorem dX2_begin_28 : decode cX2_begin 28 = .ok (.ireturn, 1) := by decide +kernel
set_option maxHeartbeats 4000000 in
theorem met_begin (l : Launch) (D : va_G) (E : Nat → ClassId) (A : Nat → Prop) (h : Nat) (ad : Nat → Nat) (I : Nat → Int) (F : Nat → Int → Int) (ow : Int) (r_ow : R32 ow) (gl : gWay I F) : MM l yX2_begin cX2_begin 3 (some .int) (mrm 1) D E A h ad [.int (iI ow)] I F (MQi D E A h ad (fun z I1 F1 => (((4 ≤ ow ∧ ow ≤ 64)) ∧ I 41 = z ∧ va_up (va_up I 41 0) 44 ow = I1 ∧ F = F1) ∨ (¬ ((4 ≤ ow ∧ ow ≤ 64)) ∧ -1 = z ∧ I = I1 ∧ F = F1))) := by
  refine m_start (by decide) rfl (Nat.le_of_ble_eq_true rfl) ?_
  intro p e R s m args below meth c ls Q hR hQ hC hml hr hlk hM hS hl
  have hx := hC.1
  have hb := hC.2.1
  have hown := hC.2.2.1
  have hts := hC.2.2.2.1
  have hl : lv_has ls 3 [(0, .ref h), (1, .int (iI ow))] := hl
  obtain ⟨i41, i44, a42, a43⟩ := gl
  refine lv_iload_n hx hb dX2_begin_0 rfl (lv_at hl 1 rfl) ?_
  refine r_iconst hx hb dX2_begin_1 ?_
  refine r_bipush hx hb dX2_begin_2 (by decide) ?_
  refine s_calli (kX2_X2_in (rest := []) (as := [.int (iI ow), .int (iI 4), .int (iI 64)]) hx hb hml hown hts (met_in l ow 4 64 r_ow (by decide) (by decide)) ⟨rfl, rfl⟩ hR (by decide) rfl hl.1 rfl (Nat.le_of_ble_eq_true rfl) dX2_begin_4) ?_
  refine r_ifneB (tgt := 12) hx hb dX2_begin_7 (by decide) (fun c1 => ?_) (fun c1 => ?_)
  · refine lv_aload_n hx hb dX2_begin_12 rfl (lv_at hl 0 rfl) ?_
    refine mg_41 (v := I 41) hC hM rfl dX2_begin_13 ?_
    refine lv_istore_n (lv' := [(2, .int (iI (I 41))), (0, .ref h), (1, .int (iI ow))]) hx hb dX2_begin_16 rfl hl (by decide) rfl (fun ls hl => ?_)
    refine lv_aload_n hx hb dX2_begin_17 rfl (lv_at hl 1 rfl) ?_
    refine r_iconst hx hb dX2_begin_18 ?_
    refine mp_41 hC hM hS dX2_begin_19 (fun H locs hM hS => ?_)
    refine lv_aload_n hx hb dX2_begin_22 rfl (lv_at hl 1 rfl) ?_
    refine lv_iload_n hx hb dX2_begin_23 rfl (lv_at hl 2 rfl) ?_
    refine mp_44 hC hM hS dX2_begin_24 (fun H locs hM hS => ?_)
    refine lv_iload_n hx hb dX2_begin_27 rfl (lv_at hl 0 rfl) ?_
    exact m_iret hC hQ hr hlk hM hS dX2_begin_28 (Or.inl ⟨by omega, by omega, rfl, rfl⟩)
  · refine r_iconst hx hb dX2_begin_10 ?_
    exact m_iret hC hQ hr hlk hM hS dX2_begin_11 (Or.inr ⟨by omega, rfl, rfl, rfl⟩)
theorem dX2_end_0 : decode cX2_end 0 = .ok (.iload_n 1, 1) := by decide +kernel
theorem dX2_end_1 : decode cX2_end 1 = .ok (.iconst 0, 1) := by decide +kernel
theorem dX2_end_2 : decode cX2_end 2 = .ok (.aload_n 0, 1) := by decide +kernel
theorem dX2_end_3 : decode cX2_end 3 = .ok (.getfield 260, 3) := by decide +kernel
theorem dX2_end_6 : decode cX2_end 6 = .ok (.invokestatic 173, 3) := by decide +kernel
theorem dX2_end_9 : decode cX2_end 9 = .ok (.ifCond .ne 5, 3) := by decide +kernel
theorem dX2_end_12 : decode cX2_end 12 = .ok (.iconst 0, 1) := by decide +kernel
theorem dX2_end_13 : decode cX2_end 13 = .ok (.ireturn, 1) := by decide +kernel
theorem dX2_end_14 : decode cX2_end 14 = .ok (.aload_n 0, 1) := by decide +kernel
theorem dX2_end_15 : decode cX2_end 15 = .ok (.iload_n 1, 1) := by decide +kernel
theorem dX2_end_16 : decode cX2_end 16 = .ok (.putfield 260, 3) := by decide +kernel
theorem dX2_end_19 : decode cX2_end 19 = .ok (.iconst 1, 1) := by decide +kernel
theorem dX2_end_20 : decode cX2_end 20 = .ok (.ireturn, 1) := by decide +kernel
set_option maxHeartbeats 4000000 in
theorem met_end (l : Launch) (D : va_G) (E : Nat → ClassId) (A : Nat → Prop) (h : Nat) (ad : Nat → Nat) (I : Nat → Int) (F : Nat → Int → Int) (n : Int) (r_n : R32 n) (gl : gTxt I F) : MM l yX2_end cX2_end 2 (some .boolean) (mrm 1) D E A h ad [.int (iI n)] I F (MQi D E A h ad (fun z I1 F1 => (((0 ≤ n ∧ n ≤ I 48)) ∧ 1 = z ∧ va_up I 48 n = I1 ∧ F = F1) ∨ (¬ ((0 ≤ n ∧ n ≤ I 48)) ∧ 0 = z ∧ I = I1 ∧ F = F1))) := by
  refine m_start (by decide) rfl (Nat.le_of_ble_eq_true rfl) ?_
  intro p e R s m args below meth c ls Q hR hQ hC hml hr hlk hM hS hl
  have hx := hC.1
  have hb := hC.2.1
  have hown := hC.2.2.1
  have hts := hC.2.2.2.1
  have hl : lv_has ls 2 [(0, .ref h), (1, .int (iI n))] := hl
  obtain ⟨i48, a47⟩ := gl
  refine lv_iload_n hx hb dX2_end_0 rfl (lv_at hl 1 rfl) ?_
  refine r_iconst hx hb dX2_end_1 ?_
  refine lv_aload_n hx hb dX2_end_2 rfl (lv_at hl 0 rfl) ?_
  refine mg_48 (v := I 48) hC hM rfl dX2_end_3 ?_
  refine s_calli (kX2_X2_in (rest := []) (as := [.int (iI n), .int (iI 0), .int (iI (I 48))]) hx hb hml hown hts (met_in l n 0 (I 48) r_n (by decide) (by omega)) ⟨rfl, rfl⟩ hR (by decide) rfl hl.1 rfl (Nat.le_of_ble_eq_true rfl) dX2_end_6) ?_
  refine r_ifneB (tgt := 14) hx hb dX2_end_9 (by decide) (fun c1 => ?_) (fun c1 => ?_)
  · refine lv_aload_n hx hb dX2_end_14 rfl (lv_at hl 0 rfl) ?_
    refine lv_iload_n hx hb dX2_end_15 rfl (lv_at hl 1 rfl) ?_
    refine mp_48 hC hM hS dX2_end_16 (fun H locs hM hS => ?_)
    refine r_iconst hx hb dX2_end_19 ?_
    exact m_zret hC hQ hr hlk hM hS (by decide) dX2_end_20 (Or.inl ⟨by omega, by omega, rfl, rfl⟩)
  · refine r_iconst hx hb dX2_end_12 ?_
    exact m_zret hC hQ hr hlk hM hS (by decide) dX2_end_13 (Or.inr ⟨by omega, rfl, rfl, rfl⟩)
theorem dX2_lose_0 : decode cX2_lose 0 = .ok (.aload_n 0, 1) := by decide +kernel
theorem dX2_lose_1 : decode cX2_lose 1 = .ok (.iload_n 1, 1) := by decide +kernel
theorem dX2_lose_2 : decode cX2_lose 2 = .ok (.invokevirtual 184, 3) := by decide +kernel
theorem dX2_lose_5 : decode cX2_lose 5 = .ok (.ifCond .ne 5, 3) := by decide +kernel
theorem dX2_lose_8 : decode cX2_lose 8 = .ok (.iconst 0, 1) := by decide +kernel
theorem dX2_lose_9 : decode cX2_lose 9 = .ok (.ireturn, 1) := by decide +kernel
theorem dX2_lose_10 : decode cX2_lose 10 = .ok (.aload_n 0, 1) := by decide +kernel
theorem dX2_lose_11 : decode cX2_lose 11 = .ok (.getfield 31, 3) := by decide +kernel
theorem dX2_lose_14 : decode cX2_lose 14 = .ok (.iload_n 1, 1) := by decide +kernel
theorem dX2_lose_15 : decode cX2_lose 15 = .ok (.iconst 1, 1) := by decide +kernel
theorem dX2_lose_16 : decode cX2_lose 16 = .ok (.bastore, 1) := by decide +kernel
theorem dX2_lose_17 : decode cX2_lose 17 = .ok (.iconst 1, 1) := by decide +kernel
theorem dX2_lose_18 : decode cX2_lose 18 = .ok (.ireturn, 1) := by decide +kernel
set_option maxHeartbeats 4000000 in
theorem met_lose (l : Launch) (D : va_G) (E : Nat → ClassId) (A : Nat → Prop) (h : Nat) (ad : Nat → Nat) (I : Nat → Int) (F : Nat → Int → Int) (wt : Int) (r_wt : R32 wt) (gl : gLoad I F) : MM l yX2_lose cX2_lose 2 (some .boolean) (mrm 2) D E A h ad [.int (iI wt)] I F (MQi D E A h ad (fun z I1 F1 => (((0 ≤ wt ∧ wt < I 4 ∧ F 9 wt = 0)) ∧ 1 = z ∧ I = I1 ∧ upF F 9 wt 1 = F1) ∨ (¬ ((0 ≤ wt ∧ wt < I 4 ∧ F 9 wt = 0)) ∧ 0 = z ∧ I = I1 ∧ F = F1))) := by
  refine m_start (by decide) rfl (Nat.le_of_ble_eq_true rfl) ?_
  intro p e R s m args below meth c ls Q hR hQ hC hml hr hlk hM hS hl
  have hx := hC.1
  have hb := hC.2.1
  have hown := hC.2.2.1
  have hts := hC.2.2.2.1
  have hl : lv_has ls 2 [(0, .ref h), (1, .int (iI wt))] := hl
  have gl0 := gl
  obtain ⟨i4, a5, a6, a7, a8, a9, i10, a11, a12, a13, a14, a14h⟩ := gl
  refine lv_aload_n hx hb dX2_lose_0 rfl (lv_at hl 0 rfl) ?_
  refine lv_iload_n hx hb dX2_lose_1 rfl (lv_at hl 1 rfl) ?_
  refine m_calli (kX2_isWeight (rest := []) (as := [.int (iI wt)]) hC hml (met_isWeight l D E A h ad I F wt r_wt gl0) ⟨rfl, rfl⟩ hR (by decide) hM rfl hl.1 rfl (Nat.le_of_ble_eq_true rfl) dX2_lose_2) hS (fun z1 I2 F3 H locs hp4 hM hS => ?_)
  obtain ⟨rfl, rfl, rfl⟩ := hp4
  refine r_ifneB (tgt := 10) hx hb dX2_lose_5 (by decide) (fun c5 => ?_) (fun c5 => ?_)
  · refine lv_aload_n hx hb dX2_lose_10 rfl (lv_at hl 0 rfl) ?_
    refine mg_9 hC hM dX2_lose_11 ?_
    refine lv_iload_n hx hb dX2_lose_14 rfl (lv_at hl 1 rfl) ?_
    refine r_iconst hx hb dX2_lose_15 ?_
    refine ms_9 (v := 1) hC hM hS (by omega) (by decide) dX2_lose_16 (fun H locs hM hS => ?_)
    refine r_iconst hx hb dX2_lose_17 ?_
    exact m_zret hC hQ hr hlk hM hS (by decide) dX2_lose_18 (Or.inl ⟨by omega, by omega, rfl, rfl⟩)
  · refine r_iconst hx hb dX2_lose_8 ?_
    exact m_zret hC hQ hr hlk hM hS (by decide) dX2_lose_9 (Or.inr ⟨by omega, rfl, rfl, rfl⟩)
theorem dX2_fill_0 : decode cX2_fill 0 = .ok (.iload_n 1, 1) := by decide +kernel
theorem dX2_fill_1 : decode cX2_fill 1 = .ok (.iconst 0, 1) := by decide +kernel
theorem dX2_fill_2 : decode cX2_fill 2 = .ok (.aload_n 0, 1) := by decide +kernel
theorem dX2_fill_3 : decode cX2_fill 3 = .ok (.getfield 188, 3) := by decide +kernel
theorem dX2_fill_6 : decode cX2_fill 6 = .ok (.iconst 1, 1) := by decide +kernel
theorem dX2_fill_7 : decode cX2_fill 7 = .ok (.isub, 1) := by decide +kernel
theorem dX2_fill_8 : decode cX2_fill 8 = .ok (.invokestatic 173, 3) := by decide +kernel
theorem dX2_fill_11 : decode cX2_fill 11 = .ok (.ifCond .eq 17, 3) := by decide +kernel
theorem dX2_fill_14 : decode cX2_fill 14 = .ok (.iload_n 2, 1) := by decide +kernel
theorem dX2_fill_15 : decode cX2_fill 15 = .ok (.iconst 0, 1) := by decide +kernel
theorem dX2_fill_16 : decode cX2_fill 16 = .ok (.aload_n 0, 1) := by decide +kernel
theorem dX2_fill_17 : decode cX2_fill 17 = .ok (.getfield 41, 3) := by decide +kernel
theorem dX2_fill_20 : decode cX2_fill 20 = .ok (.iload_n 1, 1) := by decide +kernel
theorem dX2_fill_21 : decode cX2_fill 21 = .ok (.iaload, 1) := by decide +kernel
theorem dX2_fill_22 : decode cX2_fill 22 = .ok (.invokestatic 173, 3) := by decide +kernel
theorem dX2_fill_25 : decode cX2_fill 25 = .ok (.ifCond .ne 5, 3) := by decide +kernel
theorem dX2_fill_28 : decode cX2_fill 28 = .ok (.iconst 0, 1) := by decide +kernel
theorem dX2_fill_29 : decode cX2_fill 29 = .ok (.ireturn, 1) := by decide +kernel
theorem dX2_fill_30 : decode cX2_fill 30 = .ok (.aload_n 0, 1) := by decide +kernel
theorem dX2_fill_31 : decode cX2_fill 31 = .ok (.getfield 44, 3) := by decide +kernel
theorem dX2_fill_34 : decode cX2_fill 34 = .ok (.iload_n 1, 1) := by decide +kernel
theorem dX2_fill_35 : decode cX2_fill 35 = .ok (.iload_n 2, 1) := by decide +kernel
theorem dX2_fill_36 : decode cX2_fill 36 = .ok (.iastore, 1) := by decide +kernel
theorem dX2_fill_37 : decode cX2_fill 37 = .ok (.iconst 1, 1) := by decide +kernel
theorem dX2_fill_38 : decode cX2_fill 38 = .ok (.ireturn, 1) := by decide +kernel
set_option maxHeartbeats 4000000 in
theorem met_fill (l : Launch) (D : va_G) (E : Nat → ClassId) (A : Nat → Prop) (h : Nat) (ad : Nat → Nat) (I : Nat → Int) (F : Nat → Int → Int) (tk : Int) (r_tk : R32 tk) (hs : Int) (r_hs : R32 hs) (gl : gLoad I F) : MM l yX2_fill cX2_fill 3 (some .boolean) (mrm 1) D E A h ad [.int (iI tk), .int (iI hs)] I F (MQi D E A h ad (fun z I1 F1 => (((0 ≤ tk ∧ tk < I 10) ∧ (0 ≤ hs ∧ hs ≤ F 13 tk)) ∧ 1 = z ∧ I = I1 ∧ upF F 14 tk hs = F1) ∨ (¬ ((0 ≤ tk ∧ tk < I 10) ∧ (0 ≤ hs ∧ hs ≤ F 13 tk)) ∧ 0 = z ∧ I = I1 ∧ F = F1))) := by
  refine m_start (by decide) rfl (Nat.le_of_ble_eq_true rfl) ?_
  intro p e R s m args below meth c ls Q hR hQ hC hml hr hlk hM hS hl
  have hx := hC.1
  have hb := hC.2.1
  have hown := hC.2.2.1
  have hts := hC.2.2.2.1
  have hl : lv_has ls 3 [(0, .ref h), (1, .int (iI tk)), (2, .int (iI hs))] := hl
  obtain ⟨i4, a5, a6, a7, a8, a9, i10, a11, a12, a13, a14, a14h⟩ := gl
  refine lv_iload_n hx hb dX2_fill_0 rfl (lv_at hl 1 rfl) ?_
  refine r_iconst hx hb dX2_fill_1 ?_
  refine lv_aload_n hx hb dX2_fill_2 rfl (lv_at hl 0 rfl) ?_
  refine mg_10 (v := I 10) hC hM rfl dX2_fill_3 ?_
  refine r_iconst hx hb dX2_fill_6 ?_
  refine r_isub hx hb dX2_fill_7 ?_
  refine s_calli (kX2_X2_in (rest := []) (as := [.int (iI tk), .int (iI 0), .int (iI ((I 10) - 1))]) hx hb hml hown hts (met_in l tk 0 ((I 10) - 1) r_tk (by decide) (by omega)) ⟨rfl, rfl⟩ hR (by decide) rfl hl.1 rfl (Nat.le_of_ble_eq_true rfl) dX2_fill_8) ?_
  refine r_ifeqB (tgt := 28) hx hb dX2_fill_11 (by decide) (fun c1 => ?_) (fun c1 => ?_)
  · refine r_iconst hx hb dX2_fill_28 ?_
    exact m_zret hC hQ hr hlk hM hS (by decide) dX2_fill_29 (Or.inr ⟨by omega, rfl, rfl, rfl⟩)
  · refine lv_iload_n hx hb dX2_fill_14 rfl (lv_at hl 2 rfl) ?_
    refine r_iconst hx hb dX2_fill_15 ?_
    refine lv_aload_n hx hb dX2_fill_16 rfl (lv_at hl 0 rfl) ?_
    refine mg_13 hC hM dX2_fill_17 ?_
    refine lv_iload_n hx hb dX2_fill_20 rfl (lv_at hl 1 rfl) ?_
    have b13 := a13 tk (by omega) (by omega)
    refine ml_13 (v := F 13 tk) hC hM (by omega) rfl dX2_fill_21 ?_
    refine s_calli (kX2_X2_in (rest := []) (as := [.int (iI hs), .int (iI 0), .int (iI (F 13 tk))]) hx hb hml hown hts (met_in l hs 0 (F 13 tk) r_hs (by decide) (by omega)) ⟨rfl, rfl⟩ hR (by decide) rfl hl.1 rfl (Nat.le_of_ble_eq_true rfl) dX2_fill_22) ?_
    refine r_ifneB (tgt := 30) hx hb dX2_fill_25 (by decide) (fun c2 => ?_) (fun c2 => ?_)
    · refine lv_aload_n hx hb dX2_fill_30 rfl (lv_at hl 0 rfl) ?_
      refine mg_14 hC hM dX2_fill_31 ?_
      refine lv_iload_n hx hb dX2_fill_34 rfl (lv_at hl 1 rfl) ?_
      refine lv_iload_n hx hb dX2_fill_35 rfl (lv_at hl 2 rfl) ?_
      refine ms_14 (v := hs) hC hM hS (by omega) dX2_fill_36 (fun H locs hM hS => ?_)
      refine r_iconst hx hb dX2_fill_37 ?_
      exact m_zret hC hQ hr hlk hM hS (by decide) dX2_fill_38 (Or.inl ⟨by omega, by omega, rfl, rfl⟩)
    · refine r_iconst hx hb dX2_fill_28 ?_
      exact m_zret hC hQ hr hlk hM hS (by decide) dX2_fill_29 (Or.inr ⟨by omega, rfl, rfl, rfl⟩)
theorem dX2_clear_0 : decode cX2_clear 0 = .ok (.aload_n 0, 1) := by decide +kernel
theorem dX2_clear_1 : decode cX2_clear 1 = .ok (.getfield 377, 3) := by decide +kernel
theorem dX2_clear_4 : decode cX2_clear 4 = .ok (.istore_n 1, 1) := by decide +kernel
theorem dX2_clear_5 : decode cX2_clear 5 = .ok (.aload_n 0, 1) := by decide +kernel
theorem dX2_clear_6 : decode cX2_clear 6 = .ok (.iconst 0, 1) := by decide +kernel
theorem dX2_clear_7 : decode cX2_clear 7 = .ok (.putfield 377, 3) := by decide +kernel
theorem dX2_clear_10 : decode cX2_clear 10 = .ok (.iload_n 1, 1) := by decide +kernel
theorem dX2_clear_11 : decode cX2_clear 11 = .ok (.ireturn, 1) := by decide +kernel
set_option maxHeartbeats 4000000 in
theorem met_clear (l : Launch) (D : va_G) (E : Nat → ClassId) (A : Nat → Prop) (h : Nat) (ad : Nat → Nat) (I : Nat → Int) (F : Nat → Int → Int)  : MM l yX2_clear cX2_clear 2 (some .int) (mrm 0) D E A h ad [] I F (MQi D E A h ad (fun z I1 F1 => I 45 = z ∧ va_up I 45 0 = I1 ∧ F = F1)) := by
  refine m_start (by decide) rfl (Nat.le_of_ble_eq_true rfl) ?_
  intro p e R s m args below meth c ls Q hR hQ hC hml hr hlk hM hS hl
  have hx := hC.1
  have hb := hC.2.1
  have hown := hC.2.2.1
  have hts := hC.2.2.2.1
  have hl : lv_has ls 2 [(0, .ref h)] := hl
  refine lv_aload_n hx hb dX2_clear_0 rfl (lv_at hl 0 rfl) ?_
  refine mg_45 (v := I 45) hC hM rfl dX2_clear_1 ?_
  refine lv_istore_n (lv' := [(1, .int (iI (I 45))), (0, .ref h)]) hx hb dX2_clear_4 rfl hl (by decide) rfl (fun ls hl => ?_)
  refine lv_aload_n hx hb dX2_clear_5 rfl (lv_at hl 1 rfl) ?_
  refine r_iconst hx hb dX2_clear_6 ?_
  refine mp_45 hC hM hS dX2_clear_7 (fun H locs hM hS => ?_)
  refine lv_iload_n hx hb dX2_clear_10 rfl (lv_at hl 0 rfl) ?_
  exact m_iret hC hQ hr hlk hM hS dX2_clear_11 (⟨rfl, rfl, rfl⟩)
def sliceF (I : Nat → Int) (F : Nat → Int → Int) (ln lo up : Int) : Nat → Int → Int := upF (upF (upF (upF (upF (upF (upF (upF (upF (upF (upF F 2 (I 1) ln) 3 (10 * I 1 + 4) (lo.tmod 10)) 3 (10 * I 1 + 5 + 4) (up.tmod 10)) 3 (10 * I 1 + 3) ((lo.tdiv 10).tmod 10)) 3 (10 * I 1 + 5 + 3) ((up.tdiv 10).tmod 10)) 3 (10 * I 1 + 2) (((lo.tdiv 10).tdiv 10).tmod 10)) 3 (10 * I 1 + 5 + 2) (((up.tdiv 10).tdiv 10).tmod 10)) 3 (10 * I 1 + 1) ((((lo.tdiv 10).tdiv 10).tdiv 10).tmod 10)) 3 (10 * I 1 + 5 + 1) ((((up.tdiv 10).tdiv 10).tdiv 10).tmod 10)) 3 (10 * I 1 + 0) (((((lo.tdiv 10).tdiv 10).tdiv 10).tdiv 10).tmod 10)) 3 (10 * I 1 + 5 + 0) (((((up.tdiv 10).tdiv 10).tdiv 10).tdiv 10).tmod 10)
theorem dX2_slice_0 : decode cX2_slice 0 = .ok (.iload_n 1, 1) := by decide +kernel
theorem dX2_slice_1 : decode cX2_slice 1 = .ok (.iconst 1, 1) := by decide +kernel
theorem dX2_slice_2 : decode cX2_slice 2 = .ok (.bipush 20, 2) := by decide +kernel
theorem dX2_slice_4 : decode cX2_slice 4 = .ok (.invokestatic 173, 3) := by decide +kernel
theorem dX2_slice_7 : decode cX2_slice 7 = .ok (.ifCond .eq 32, 3) := by decide +kernel
theorem dX2_slice_10 : decode cX2_slice 10 = .ok (.iload_n 2, 1) := by decide +kernel
theorem dX2_slice_11 : decode cX2_slice 11 = .ok (.iconst 0, 1) := by decide +kernel
theorem dX2_slice_12 : decode cX2_slice 12 = .ok (.ldc 177, 2) := by decide +kernel
theorem dX2_slice_14 : decode cX2_slice 14 = .ok (.invokestatic 173, 3) := by decide +kernel
theorem dX2_slice_17 : decode cX2_slice 17 = .ok (.ifCond .eq 22, 3) := by decide +kernel
theorem dX2_slice_20 : decode cX2_slice 20 = .ok (.iload_n 3, 1) := by decide +kernel
theorem dX2_slice_21 : decode cX2_slice 21 = .ok (.iconst 0, 1) := by decide +kernel
theorem dX2_slice_22 : decode cX2_slice 22 = .ok (.ldc 177, 2) := by decide +kernel
theorem dX2_slice_24 : decode cX2_slice 24 = .ok (.invokestatic 173, 3) := by decide +kernel
theorem dX2_slice_27 : decode cX2_slice 27 = .ok (.ifCond .eq 12, 3) := by decide +kernel
theorem dX2_slice_30 : decode cX2_slice 30 = .ok (.aload_n 0, 1) := by decide +kernel
theorem dX2_slice_31 : decode cX2_slice 31 = .ok (.getfield 178, 3) := by decide +kernel
theorem dX2_slice_34 : decode cX2_slice 34 = .ok (.bipush 6, 2) := by decide +kernel
theorem dX2_slice_36 : decode cX2_slice 36 = .ok (.if_icmp .ne 5, 3) := by decide +kernel
theorem dX2_slice_39 : decode cX2_slice 39 = .ok (.iconst (-1), 1) := by decide +kernel
theorem dX2_slice_40 : decode cX2_slice 40 = .ok (.ireturn, 1) := by decide +kernel
theorem dX2_slice_41 : decode cX2_slice 41 = .ok (.aload_n 0, 1) := by decide +kernel
theorem dX2_slice_42 : decode cX2_slice 42 = .ok (.getfield 13, 3) := by decide +kernel
theorem dX2_slice_45 : decode cX2_slice 45 = .ok (.aload_n 0, 1) := by decide +kernel
theorem dX2_slice_46 : decode cX2_slice 46 = .ok (.getfield 178, 3) := by decide +kernel
theorem dX2_slice_49 : decode cX2_slice 49 = .ok (.iload_n 1, 1) := by decide +kernel
theorem dX2_slice_50 : decode cX2_slice 50 = .ok (.iastore, 1) := by decide +kernel
theorem dX2_slice_51 : decode cX2_slice 51 = .ok (.iload_n 2, 1) := by decide +kernel
theorem dX2_slice_52 : decode cX2_slice 52 = .ok (.istore 4, 2) := by decide +kernel
theorem dX2_slice_54 : decode cX2_slice 54 = .ok (.iload_n 3, 1) := by decide +kernel
theorem dX2_slice_55 : decode cX2_slice 55 = .ok (.istore 5, 2) := by decide +kernel
theorem dX2_slice_57 : decode cX2_slice 57 = .ok (.iconst 4, 1) := by decide +kernel
theorem dX2_slice_58 : decode cX2_slice 58 = .ok (.istore 6, 2) := by decide +kernel
theorem dX2_slice_60 : decode cX2_slice 60 = .ok (.iload 6, 2) := by decide +kernel
theorem dX2_slice_62 : decode cX2_slice 62 = .ok (.ifCond .lt 65, 3) := by decide +kernel
theorem dX2_slice_65 : decode cX2_slice 65 = .ok (.aload_n 0, 1) := by decide +kernel
theorem dX2_slice_66 : decode cX2_slice 66 = .ok (.getfield 16, 3) := by decide +kernel
theorem dX2_slice_69 : decode cX2_slice 69 = .ok (.bipush 10, 2) := by decide +kernel
theorem dX2_slice_71 : decode cX2_slice 71 = .ok (.aload_n 0, 1) := by decide +kernel
theorem dX2_slice_72 : decode cX2_slice 72 = .ok (.getfield 178, 3) := by decide +kernel
theorem dX2_slice_75 : decode cX2_slice 75 = .ok (.imul, 1) := by decide +kernel
theorem dX2_slice_76 : decode cX2_slice 76 = .ok (.iload 6, 2) := by decide +kernel
theorem dX2_slice_78 : decode cX2_slice 78 = .ok (.iadd, 1) := by decide +kernel
theorem dX2_slice_79 : decode cX2_slice 79 = .ok (.iload 4, 2) := by decide +kernel
theorem dX2_slice_81 : decode cX2_slice 81 = .ok (.bipush 10, 2) := by decide +kernel
theorem dX2_slice_83 : decode cX2_slice 83 = .ok (.irem, 1) := by decide +kernel
theorem dX2_slice_84 : decode cX2_slice 84 = .ok (.iastore, 1) := by decide +kernel
theorem dX2_slice_85 : decode cX2_slice 85 = .ok (.aload_n 0, 1) := by decide +kernel
theorem dX2_slice_86 : decode cX2_slice 86 = .ok (.getfield 16, 3) := by decide +kernel
theorem dX2_slice_89 : decode cX2_slice 89 = .ok (.bipush 10, 2) := by decide +kernel
theorem dX2_slice_91 : decode cX2_slice 91 = .ok (.aload_n 0, 1) := by decide +kernel
theorem dX2_slice_92 : decode cX2_slice 92 = .ok (.getfield 178, 3) := by decide +kernel
theorem dX2_slice_95 : decode cX2_slice 95 = .ok (.imul, 1) := by decide +kernel
theorem dX2_slice_96 : decode cX2_slice 96 = .ok (.iconst 5, 1) := by decide +kernel
theorem dX2_slice_97 : decode cX2_slice 97 = .ok (.iadd, 1) := by decide +kernel
theorem dX2_slice_98 : decode cX2_slice 98 = .ok (.iload 6, 2) := by decide +kernel
theorem dX2_slice_100 : decode cX2_slice 100 = .ok (.iadd, 1) := by decide +kernel
theorem dX2_slice_101 : decode cX2_slice 101 = .ok (.iload 5, 2) := by decide +kernel
theorem dX2_slice_103 : decode cX2_slice 103 = .ok (.bipush 10, 2) := by decide +kernel
theorem dX2_slice_105 : decode cX2_slice 105 = .ok (.irem, 1) := by decide +kernel
theorem dX2_slice_106 : decode cX2_slice 106 = .ok (.iastore, 1) := by decide +kernel
theorem dX2_slice_107 : decode cX2_slice 107 = .ok (.iload 4, 2) := by decide +kernel
theorem dX2_slice_109 : decode cX2_slice 109 = .ok (.bipush 10, 2) := by decide +kernel
theorem dX2_slice_111 : decode cX2_slice 111 = .ok (.idiv, 1) := by decide +kernel
theorem dX2_slice_112 : decode cX2_slice 112 = .ok (.istore 4, 2) := by decide +kernel
theorem dX2_slice_114 : decode cX2_slice 114 = .ok (.iload 5, 2) := by decide +kernel
theorem dX2_slice_116 : decode cX2_slice 116 = .ok (.bipush 10, 2) := by decide +kernel
theorem dX2_slice_118 : decode cX2_slice 118 = .ok (.idiv, 1) := by decide +kernel
theorem dX2_slice_119 : decode cX2_slice 119 = .ok (.istore 5, 2) := by decide +kernel
theorem dX2_slice_121 : decode cX2_slice 121 = .ok (.iinc 6 (-1), 3) := by decide +kernel
theorem dX2_slice_124 : decode cX2_slice 124 = .ok (.goto (-64), 3) := by decide +kernel
theorem dX2_slice_127 : decode cX2_slice 127 = .ok (.aload_n 0, 1) := by decide +kernel
theorem dX2_slice_128 : decode cX2_slice 128 = .ok (.dup, 1) := by decide +kernel
theorem dX2_slice_129 : decode cX2_slice 129 = .ok (.getfield 178, 3) := by decide +kernel
theorem dX2_slice_132 : decode cX2_slice 132 = .ok (.iconst 1, 1) := by decide +kernel
theorem dX2_slice_133 : decode cX2_slice 133 = .ok (.iadd, 1) := by decide +kernel
theorem dX2_slice_134 : decode cX2_slice 134 = .ok (.putfield 178, 3) := by decide +kernel
theorem dX2_slice_137 : decode cX2_slice 137 = .ok (.aload_n 0, 1) := by decide +kernel
theorem dX2_slice_138 : decode cX2_slice 138 = .ok (.getfield 178, 3) := by decide +kernel
theorem dX2_slice_141 : decode cX2_slice 141 = .ok (.iconst 1, 1) := by decide +kernel
theorem dX2_slice_142 : decode cX2_slice 142 = .ok (.isub, 1) := by decide +kernel
theorem dX2_slice_143 : decode cX2_slice 143 = .ok (.ireturn, 1) := by decide +kernel
set_option maxHeartbeats 4000000 in
theorem met_slice (l : Launch) (D : va_G) (E : Nat → ClassId) (A : Nat → Prop) (h : Nat) (ad : Nat → Nat) (I : Nat → Int) (F : Nat → Int → Int) (ln lo up : Int) (r_ln : R32 ln) (r_lo : R32 lo) (r_up : R32 up) (gl : gHull I F) : MM l yX2_slice cX2_slice 7 (some .int) (mrm 1) D E A h ad [.int (iI ln), .int (iI lo), .int (iI up)] I F (MQi D E A h ad (fun z I1 F1 => (((1 ≤ ln ∧ ln ≤ 20) ∧ (0 ≤ lo ∧ lo ≤ 99999) ∧ (0 ≤ up ∧ up ≤ 99999) ∧ I 1 ≠ 6) ∧ I 1 = z ∧ va_up I 1 (I 1 + 1) = I1 ∧ sliceF I F ln lo up = F1) ∨ (¬ ((1 ≤ ln ∧ ln ≤ 20) ∧ (0 ≤ lo ∧ lo ≤ 99999) ∧ (0 ≤ up ∧ up ≤ 99999) ∧ I 1 ≠ 6) ∧ -1 = z ∧ I = I1 ∧ F = F1))) := by
  refine m_start (by decide) rfl (Nat.le_of_ble_eq_true rfl) ?_
  intro p e R s m args below meth c ls Q hR hQ hC hml hr hlk hM hS hl
  have hx := hC.1
  have hb := hC.2.1
  have hown := hC.2.2.1
  have hts := hC.2.2.2.1
  have hl : lv_has ls 7 [(0, .ref h), (1, .int (iI ln)), (2, .int (iI lo)), (3, .int (iI up))] := hl
  obtain ⟨i1, a2, a3⟩ := gl
  refine lv_iload_n hx hb dX2_slice_0 rfl (lv_at hl 1 rfl) ?_
  refine r_iconst hx hb dX2_slice_1 ?_
  refine r_bipush hx hb dX2_slice_2 (by decide) ?_
  refine s_calli (kX2_X2_in (rest := []) (as := [.int (iI ln), .int (iI 1), .int (iI 20)]) hx hb hml hown hts (met_in l ln 1 20 r_ln (by decide) (by decide)) ⟨rfl, rfl⟩ hR (by decide) rfl hl.1 rfl (Nat.le_of_ble_eq_true rfl) dX2_slice_4) ?_
  refine r_ifeqB (tgt := 39) hx hb dX2_slice_7 (by decide) (fun c1 => ?_) (fun c1 => ?_)
  · refine r_iconst hx hb dX2_slice_39 ?_
    exact m_iret hC hQ hr hlk hM hS dX2_slice_40 (Or.inr ⟨by omega, rfl, rfl, rfl⟩)
  · refine lv_iload_n hx hb dX2_slice_10 rfl (lv_at hl 2 rfl) ?_
    refine r_iconst hx hb dX2_slice_11 ?_
    refine r_ldc hx hb 99999 hown (hts _ q1260) (by decide) dX2_slice_12 ?_
    refine s_calli (kX2_X2_in (rest := []) (as := [.int (iI lo), .int (iI 0), .int (iI 99999)]) hx hb hml hown hts (met_in l lo 0 99999 r_lo (by decide) (by decide)) ⟨rfl, rfl⟩ hR (by decide) rfl hl.1 rfl (Nat.le_of_ble_eq_true rfl) dX2_slice_14) ?_
    refine r_ifeqB (tgt := 39) hx hb dX2_slice_17 (by decide) (fun c2 => ?_) (fun c2 => ?_)
    · refine r_iconst hx hb dX2_slice_39 ?_
      exact m_iret hC hQ hr hlk hM hS dX2_slice_40 (Or.inr ⟨by omega, rfl, rfl, rfl⟩)
    · refine lv_iload_n hx hb dX2_slice_20 rfl (lv_at hl 3 rfl) ?_
      refine r_iconst hx hb dX2_slice_21 ?_
      refine r_ldc hx hb 99999 hown (hts _ q1260) (by decide) dX2_slice_22 ?_
      refine s_calli (kX2_X2_in (rest := []) (as := [.int (iI up), .int (iI 0), .int (iI 99999)]) hx hb hml hown hts (met_in l up 0 99999 r_up (by decide) (by decide)) ⟨rfl, rfl⟩ hR (by decide) rfl hl.1 rfl (Nat.le_of_ble_eq_true rfl) dX2_slice_24) ?_
      refine r_ifeqB (tgt := 39) hx hb dX2_slice_27 (by decide) (fun c3 => ?_) (fun c3 => ?_)
      · refine r_iconst hx hb dX2_slice_39 ?_
        exact m_iret hC hQ hr hlk hM hS dX2_slice_40 (Or.inr ⟨by omega, rfl, rfl, rfl⟩)
      · refine lv_aload_n hx hb dX2_slice_30 rfl (lv_at hl 0 rfl) ?_
        refine mg_1 (v := I 1) hC hM rfl dX2_slice_31 ?_
        refine r_bipush hx hb dX2_slice_34 (by decide) ?_
        refine r_icmp_ne (tgt := 41) hx hb dX2_slice_36 (by decide) (by omega) (by decide) (fun c4 => ?_) (fun c4 => ?_)
        · refine lv_aload_n hx hb dX2_slice_41 rfl (lv_at hl 0 rfl) ?_
          refine mg_2 hC hM dX2_slice_42 ?_
          refine lv_aload_n hx hb dX2_slice_45 rfl (lv_at hl 0 rfl) ?_
          refine mg_1 (v := I 1) hC hM rfl dX2_slice_46 ?_
          refine lv_iload_n hx hb dX2_slice_49 rfl (lv_at hl 1 rfl) ?_
          refine ms_2 (v := ln) hC hM hS (by omega) dX2_slice_50 (fun H locs hM hS => ?_)
          refine lv_iload_n hx hb dX2_slice_51 rfl (lv_at hl 2 rfl) ?_
          refine lv_istore (lv' := [(4, .int (iI lo)), (0, .ref h), (1, .int (iI ln)), (2, .int (iI lo)), (3, .int (iI up))]) hx hb dX2_slice_52 hl (by decide) rfl (fun ls hl => ?_)
          refine lv_iload_n hx hb dX2_slice_54 rfl (lv_at hl 4 rfl) ?_
          refine lv_istore (lv' := [(5, .int (iI up)), (4, .int (iI lo)), (0, .ref h), (1, .int (iI ln)), (2, .int (iI lo)), (3, .int (iI up))]) hx hb dX2_slice_55 hl (by decide) rfl (fun ls hl => ?_)
          refine r_iconst hx hb dX2_slice_57 ?_
          refine lv_istore (lv' := [(6, .int (iI 4)), (5, .int (iI up)), (4, .int (iI lo)), (0, .ref h), (1, .int (iI ln)), (2, .int (iI lo)), (3, .int (iI up))]) hx hb dX2_slice_58 hl (by decide) rfl (fun ls hl => ?_)
          refine lv_iload hx hb dX2_slice_60 (lv_at hl 0 rfl) ?_
          refine r_if_lt (tgt := 127) hx hb dX2_slice_62 (by decide) (by decide) (fun c5 => absurd c5 (by decide)) (fun c5 => ?_)
          refine lv_aload_n hx hb dX2_slice_65 rfl (lv_at hl 3 rfl) ?_
          refine mg_3 hC hM dX2_slice_66 ?_
          refine r_bipush hx hb dX2_slice_69 (by decide) ?_
          refine lv_aload_n hx hb dX2_slice_71 rfl (lv_at hl 3 rfl) ?_
          refine mg_1 (v := I 1) hC hM rfl dX2_slice_72 ?_
          refine r_imul hx hb dX2_slice_75 ?_
          refine lv_iload hx hb dX2_slice_76 (lv_at hl 0 rfl) ?_
          refine r_iadd hx hb dX2_slice_78 ?_
          refine lv_iload hx hb dX2_slice_79 (lv_at hl 2 rfl) ?_
          refine r_bipush hx hb dX2_slice_81 (by decide) ?_
          refine r_irem hx hb dX2_slice_83 r_lo (by decide) (by decide) ?_
          refine ms_3 (v := lo.tmod 10) hC hM hS (by omega) dX2_slice_84 (fun H locs hM hS => ?_)
          refine lv_aload_n hx hb dX2_slice_85 rfl (lv_at hl 3 rfl) ?_
          refine mg_3 hC hM dX2_slice_86 ?_
          refine r_bipush hx hb dX2_slice_89 (by decide) ?_
          refine lv_aload_n hx hb dX2_slice_91 rfl (lv_at hl 3 rfl) ?_
          refine mg_1 (v := I 1) hC hM rfl dX2_slice_92 ?_
          refine r_imul hx hb dX2_slice_95 ?_
          refine r_iconst hx hb dX2_slice_96 ?_
          refine r_iadd hx hb dX2_slice_97 ?_
          refine lv_iload hx hb dX2_slice_98 (lv_at hl 0 rfl) ?_
          refine r_iadd hx hb dX2_slice_100 ?_
          refine lv_iload hx hb dX2_slice_101 (lv_at hl 1 rfl) ?_
          refine r_bipush hx hb dX2_slice_103 (by decide) ?_
          refine r_irem hx hb dX2_slice_105 r_up (by decide) (by decide) ?_
          refine ms_3 (v := up.tmod 10) hC hM hS (by omega) dX2_slice_106 (fun H locs hM hS => ?_)
          refine lv_iload hx hb dX2_slice_107 (lv_at hl 2 rfl) ?_
          refine r_bipush hx hb dX2_slice_109 (by decide) ?_
          refine r_idiv hx hb dX2_slice_111 r_lo (by decide) (by decide) ?_
          refine lv_istore (lv' := [(4, .int (iI (lo.tdiv 10))), (6, .int (iI 4)), (5, .int (iI up)), (0, .ref h), (1, .int (iI ln)), (2, .int (iI lo)), (3, .int (iI up))]) hx hb dX2_slice_112 hl (by decide) rfl (fun ls hl => ?_)
          refine lv_iload hx hb dX2_slice_114 (lv_at hl 2 rfl) ?_
          refine r_bipush hx hb dX2_slice_116 (by decide) ?_
          refine r_idiv hx hb dX2_slice_118 r_up (by decide) (by decide) ?_
          refine lv_istore (lv' := [(5, .int (iI (up.tdiv 10))), (4, .int (iI (lo.tdiv 10))), (6, .int (iI 4)), (0, .ref h), (1, .int (iI ln)), (2, .int (iI lo)), (3, .int (iI up))]) hx hb dX2_slice_119 hl (by decide) rfl (fun ls hl => ?_)
          refine lv_iinc (v := iI (4 + (-1))) (lv' := [(6, .int (iI (4 + (-1)))), (5, .int (iI (up.tdiv 10))), (4, .int (iI (lo.tdiv 10))), (0, .ref h), (1, .int (iI ln)), (2, .int (iI lo)), (3, .int (iI up))]) hx hb dX2_slice_121 hl (k := 2) rfl (iI_add _ _) (by decide) rfl (fun ls hl => ?_)
          refine lv_goto (tgt := 60) hx hb dX2_slice_124 (by decide) ?_
          have hl : lv_has ls 7 [(6, .int (iI 3)), (5, .int (iI (up.tdiv 10))), (4, .int (iI (lo.tdiv 10))), (0, .ref h), (1, .int (iI ln)), (2, .int (iI lo)), (3, .int (iI up))] := hl
          have hb6 := tdiv_bd (a := lo) (b := 10) (M := 99999) (by decide) (by omega)
          have hb7 := tdiv_bd (a := up) (b := 10) (M := 99999) (by decide) (by omega)
          refine lv_iload hx hb dX2_slice_60 (lv_at hl 0 rfl) ?_
          refine r_if_lt (tgt := 127) hx hb dX2_slice_62 (by decide) (by decide) (fun c8 => absurd c8 (by decide)) (fun c8 => ?_)
          refine lv_aload_n hx hb dX2_slice_65 rfl (lv_at hl 3 rfl) ?_
          refine mg_3 hC hM dX2_slice_66 ?_
          refine r_bipush hx hb dX2_slice_69 (by decide) ?_
          refine lv_aload_n hx hb dX2_slice_71 rfl (lv_at hl 3 rfl) ?_
          refine mg_1 (v := I 1) hC hM rfl dX2_slice_72 ?_
          refine r_imul hx hb dX2_slice_75 ?_
          refine lv_iload hx hb dX2_slice_76 (lv_at hl 0 rfl) ?_
          refine r_iadd hx hb dX2_slice_78 ?_
          refine lv_iload hx hb dX2_slice_79 (lv_at hl 2 rfl) ?_
          refine r_bipush hx hb dX2_slice_81 (by decide) ?_
          refine r_irem hx hb dX2_slice_83 (by omega) (by decide) (by decide) ?_
          refine ms_3 (v := (lo.tdiv 10).tmod 10) hC hM hS (by omega) dX2_slice_84 (fun H locs hM hS => ?_)
          refine lv_aload_n hx hb dX2_slice_85 rfl (lv_at hl 3 rfl) ?_
          refine mg_3 hC hM dX2_slice_86 ?_
          refine r_bipush hx hb dX2_slice_89 (by decide) ?_
          refine lv_aload_n hx hb dX2_slice_91 rfl (lv_at hl 3 rfl) ?_
          refine mg_1 (v := I 1) hC hM rfl dX2_slice_92 ?_
          refine r_imul hx hb dX2_slice_95 ?_
          refine r_iconst hx hb dX2_slice_96 ?_
          refine r_iadd hx hb dX2_slice_97 ?_
          refine lv_iload hx hb dX2_slice_98 (lv_at hl 0 rfl) ?_
          refine r_iadd hx hb dX2_slice_100 ?_
          refine lv_iload hx hb dX2_slice_101 (lv_at hl 1 rfl) ?_
          refine r_bipush hx hb dX2_slice_103 (by decide) ?_
          refine r_irem hx hb dX2_slice_105 (by omega) (by decide) (by decide) ?_
          refine ms_3 (v := (up.tdiv 10).tmod 10) hC hM hS (by omega) dX2_slice_106 (fun H locs hM hS => ?_)
          refine lv_iload hx hb dX2_slice_107 (lv_at hl 2 rfl) ?_
          refine r_bipush hx hb dX2_slice_109 (by decide) ?_
          refine r_idiv hx hb dX2_slice_111 (by omega) (by decide) (by decide) ?_
          refine lv_istore (lv' := [(4, .int (iI ((lo.tdiv 10).tdiv 10))), (6, .int (iI 3)), (5, .int (iI (up.tdiv 10))), (0, .ref h), (1, .int (iI ln)), (2, .int (iI lo)), (3, .int (iI up))]) hx hb dX2_slice_112 hl (by decide) rfl (fun ls hl => ?_)
          refine lv_iload hx hb dX2_slice_114 (lv_at hl 2 rfl) ?_
          refine r_bipush hx hb dX2_slice_116 (by decide) ?_
          refine r_idiv hx hb dX2_slice_118 (by omega) (by decide) (by decide) ?_
          refine lv_istore (lv' := [(5, .int (iI ((up.tdiv 10).tdiv 10))), (4, .int (iI ((lo.tdiv 10).tdiv 10))), (6, .int (iI 3)), (0, .ref h), (1, .int (iI ln)), (2, .int (iI lo)), (3, .int (iI up))]) hx hb dX2_slice_119 hl (by decide) rfl (fun ls hl => ?_)
          refine lv_iinc (v := iI (3 + (-1))) (lv' := [(6, .int (iI (3 + (-1)))), (5, .int (iI ((up.tdiv 10).tdiv 10))), (4, .int (iI ((lo.tdiv 10).tdiv 10))), (0, .ref h), (1, .int (iI ln)), (2, .int (iI lo)), (3, .int (iI up))]) hx hb dX2_slice_121 hl (k := 2) rfl (iI_add _ _) (by decide) rfl (fun ls hl => ?_)
          refine lv_goto (tgt := 60) hx hb dX2_slice_124 (by decide) ?_
          have hl : lv_has ls 7 [(6, .int (iI 2)), (5, .int (iI ((up.tdiv 10).tdiv 10))), (4, .int (iI ((lo.tdiv 10).tdiv 10))), (0, .ref h), (1, .int (iI ln)), (2, .int (iI lo)), (3, .int (iI up))] := hl
          have hb9 := tdiv_bd (a := lo.tdiv 10) (b := 10) (M := 99999) (by decide) (by omega)
          have hb10 := tdiv_bd (a := up.tdiv 10) (b := 10) (M := 99999) (by decide) (by omega)
          refine lv_iload hx hb dX2_slice_60 (lv_at hl 0 rfl) ?_
          refine r_if_lt (tgt := 127) hx hb dX2_slice_62 (by decide) (by decide) (fun c11 => absurd c11 (by decide)) (fun c11 => ?_)
          refine lv_aload_n hx hb dX2_slice_65 rfl (lv_at hl 3 rfl) ?_
          refine mg_3 hC hM dX2_slice_66 ?_
          refine r_bipush hx hb dX2_slice_69 (by decide) ?_
          refine lv_aload_n hx hb dX2_slice_71 rfl (lv_at hl 3 rfl) ?_
          refine mg_1 (v := I 1) hC hM rfl dX2_slice_72 ?_
          refine r_imul hx hb dX2_slice_75 ?_
          refine lv_iload hx hb dX2_slice_76 (lv_at hl 0 rfl) ?_
          refine r_iadd hx hb dX2_slice_78 ?_
          refine lv_iload hx hb dX2_slice_79 (lv_at hl 2 rfl) ?_
          refine r_bipush hx hb dX2_slice_81 (by decide) ?_
          refine r_irem hx hb dX2_slice_83 (by omega) (by decide) (by decide) ?_
          refine ms_3 (v := ((lo.tdiv 10).tdiv 10).tmod 10) hC hM hS (by omega) dX2_slice_84 (fun H locs hM hS => ?_)
          refine lv_aload_n hx hb dX2_slice_85 rfl (lv_at hl 3 rfl) ?_
          refine mg_3 hC hM dX2_slice_86 ?_
          refine r_bipush hx hb dX2_slice_89 (by decide) ?_
          refine lv_aload_n hx hb dX2_slice_91 rfl (lv_at hl 3 rfl) ?_
          refine mg_1 (v := I 1) hC hM rfl dX2_slice_92 ?_
          refine r_imul hx hb dX2_slice_95 ?_
          refine r_iconst hx hb dX2_slice_96 ?_
          refine r_iadd hx hb dX2_slice_97 ?_
          refine lv_iload hx hb dX2_slice_98 (lv_at hl 0 rfl) ?_
          refine r_iadd hx hb dX2_slice_100 ?_
          refine lv_iload hx hb dX2_slice_101 (lv_at hl 1 rfl) ?_
          refine r_bipush hx hb dX2_slice_103 (by decide) ?_
          refine r_irem hx hb dX2_slice_105 (by omega) (by decide) (by decide) ?_
          refine ms_3 (v := ((up.tdiv 10).tdiv 10).tmod 10) hC hM hS (by omega) dX2_slice_106 (fun H locs hM hS => ?_)
          refine lv_iload hx hb dX2_slice_107 (lv_at hl 2 rfl) ?_
          refine r_bipush hx hb dX2_slice_109 (by decide) ?_
          refine r_idiv hx hb dX2_slice_111 (by omega) (by decide) (by decide) ?_
          refine lv_istore (lv' := [(4, .int (iI (((lo.tdiv 10).tdiv 10).tdiv 10))), (6, .int (iI 2)), (5, .int (iI ((up.tdiv 10).tdiv 10))), (0, .ref h), (1, .int (iI ln)), (2, .int (iI lo)), (3, .int (iI up))]) hx hb dX2_slice_112 hl (by decide) rfl (fun ls hl => ?_)
          refine lv_iload hx hb dX2_slice_114 (lv_at hl 2 rfl) ?_
          refine r_bipush hx hb dX2_slice_116 (by decide) ?_
          refine r_idiv hx hb dX2_slice_118 (by omega) (by decide) (by decide) ?_
          refine lv_istore (lv' := [(5, .int (iI (((up.tdiv 10).tdiv 10).tdiv 10))), (4, .int (iI (((lo.tdiv 10).tdiv 10).tdiv 10))), (6, .int (iI 2)), (0, .ref h), (1, .int (iI ln)), (2, .int (iI lo)), (3, .int (iI up))]) hx hb dX2_slice_119 hl (by decide) rfl (fun ls hl => ?_)
          refine lv_iinc (v := iI (2 + (-1))) (lv' := [(6, .int (iI (2 + (-1)))), (5, .int (iI (((up.tdiv 10).tdiv 10).tdiv 10))), (4, .int (iI (((lo.tdiv 10).tdiv 10).tdiv 10))), (0, .ref h), (1, .int (iI ln)), (2, .int (iI lo)), (3, .int (iI up))]) hx hb dX2_slice_121 hl (k := 2) rfl (iI_add _ _) (by decide) rfl (fun ls hl => ?_)
          refine lv_goto (tgt := 60) hx hb dX2_slice_124 (by decide) ?_
          have hl : lv_has ls 7 [(6, .int (iI 1)), (5, .int (iI (((up.tdiv 10).tdiv 10).tdiv 10))), (4, .int (iI (((lo.tdiv 10).tdiv 10).tdiv 10))), (0, .ref h), (1, .int (iI ln)), (2, .int (iI lo)), (3, .int (iI up))] := hl
          have hb12 := tdiv_bd (a := (lo.tdiv 10).tdiv 10) (b := 10) (M := 99999) (by decide) (by omega)
          have hb13 := tdiv_bd (a := (up.tdiv 10).tdiv 10) (b := 10) (M := 99999) (by decide) (by omega)
          refine lv_iload hx hb dX2_slice_60 (lv_at hl 0 rfl) ?_
          refine r_if_lt (tgt := 127) hx hb dX2_slice_62 (by decide) (by decide) (fun c14 => absurd c14 (by decide)) (fun c14 => ?_)
          refine lv_aload_n hx hb dX2_slice_65 rfl (lv_at hl 3 rfl) ?_
          refine mg_3 hC hM dX2_slice_66 ?_
          refine r_bipush hx hb dX2_slice_69 (by decide) ?_
          refine lv_aload_n hx hb dX2_slice_71 rfl (lv_at hl 3 rfl) ?_
          refine mg_1 (v := I 1) hC hM rfl dX2_slice_72 ?_
          refine r_imul hx hb dX2_slice_75 ?_
          refine lv_iload hx hb dX2_slice_76 (lv_at hl 0 rfl) ?_
          refine r_iadd hx hb dX2_slice_78 ?_
          refine lv_iload hx hb dX2_slice_79 (lv_at hl 2 rfl) ?_
          refine r_bipush hx hb dX2_slice_81 (by decide) ?_
          refine r_irem hx hb dX2_slice_83 (by omega) (by decide) (by decide) ?_
          refine ms_3 (v := (((lo.tdiv 10).tdiv 10).tdiv 10).tmod 10) hC hM hS (by omega) dX2_slice_84 (fun H locs hM hS => ?_)
          refine lv_aload_n hx hb dX2_slice_85 rfl (lv_at hl 3 rfl) ?_
          refine mg_3 hC hM dX2_slice_86 ?_
          refine r_bipush hx hb dX2_slice_89 (by decide) ?_
          refine lv_aload_n hx hb dX2_slice_91 rfl (lv_at hl 3 rfl) ?_
          refine mg_1 (v := I 1) hC hM rfl dX2_slice_92 ?_
          refine r_imul hx hb dX2_slice_95 ?_
          refine r_iconst hx hb dX2_slice_96 ?_
          refine r_iadd hx hb dX2_slice_97 ?_
          refine lv_iload hx hb dX2_slice_98 (lv_at hl 0 rfl) ?_
          refine r_iadd hx hb dX2_slice_100 ?_
          refine lv_iload hx hb dX2_slice_101 (lv_at hl 1 rfl) ?_
          refine r_bipush hx hb dX2_slice_103 (by decide) ?_
          refine r_irem hx hb dX2_slice_105 (by omega) (by decide) (by decide) ?_
          refine ms_3 (v := (((up.tdiv 10).tdiv 10).tdiv 10).tmod 10) hC hM hS (by omega) dX2_slice_106 (fun H locs hM hS => ?_)
          refine lv_iload hx hb dX2_slice_107 (lv_at hl 2 rfl) ?_
          refine r_bipush hx hb dX2_slice_109 (by decide) ?_
          refine r_idiv hx hb dX2_slice_111 (by omega) (by decide) (by decide) ?_
          refine lv_istore (lv' := [(4, .int (iI ((((lo.tdiv 10).tdiv 10).tdiv 10).tdiv 10))), (6, .int (iI 1)), (5, .int (iI (((up.tdiv 10).tdiv 10).tdiv 10))), (0, .ref h), (1, .int (iI ln)), (2, .int (iI lo)), (3, .int (iI up))]) hx hb dX2_slice_112 hl (by decide) rfl (fun ls hl => ?_)
          refine lv_iload hx hb dX2_slice_114 (lv_at hl 2 rfl) ?_
          refine r_bipush hx hb dX2_slice_116 (by decide) ?_
          refine r_idiv hx hb dX2_slice_118 (by omega) (by decide) (by decide) ?_
          refine lv_istore (lv' := [(5, .int (iI ((((up.tdiv 10).tdiv 10).tdiv 10).tdiv 10))), (4, .int (iI ((((lo.tdiv 10).tdiv 10).tdiv 10).tdiv 10))), (6, .int (iI 1)), (0, .ref h), (1, .int (iI ln)), (2, .int (iI lo)), (3, .int (iI up))]) hx hb dX2_slice_119 hl (by decide) rfl (fun ls hl => ?_)
          refine lv_iinc (v := iI (1 + (-1))) (lv' := [(6, .int (iI (1 + (-1)))), (5, .int (iI ((((up.tdiv 10).tdiv 10).tdiv 10).tdiv 10))), (4, .int (iI ((((lo.tdiv 10).tdiv 10).tdiv 10).tdiv 10))), (0, .ref h), (1, .int (iI ln)), (2, .int (iI lo)), (3, .int (iI up))]) hx hb dX2_slice_121 hl (k := 2) rfl (iI_add _ _) (by decide) rfl (fun ls hl => ?_)
          refine lv_goto (tgt := 60) hx hb dX2_slice_124 (by decide) ?_
          have hl : lv_has ls 7 [(6, .int (iI 0)), (5, .int (iI ((((up.tdiv 10).tdiv 10).tdiv 10).tdiv 10))), (4, .int (iI ((((lo.tdiv 10).tdiv 10).tdiv 10).tdiv 10))), (0, .ref h), (1, .int (iI ln)), (2, .int (iI lo)), (3, .int (iI up))] := hl
          have hb15 := tdiv_bd (a := ((lo.tdiv 10).tdiv 10).tdiv 10) (b := 10) (M := 99999) (by decide) (by omega)
          have hb16 := tdiv_bd (a := ((up.tdiv 10).tdiv 10).tdiv 10) (b := 10) (M := 99999) (by decide) (by omega)
          refine lv_iload hx hb dX2_slice_60 (lv_at hl 0 rfl) ?_
          refine r_if_lt (tgt := 127) hx hb dX2_slice_62 (by decide) (by decide) (fun c17 => absurd c17 (by decide)) (fun c17 => ?_)
          refine lv_aload_n hx hb dX2_slice_65 rfl (lv_at hl 3 rfl) ?_
          refine mg_3 hC hM dX2_slice_66 ?_
          refine r_bipush hx hb dX2_slice_69 (by decide) ?_
          refine lv_aload_n hx hb dX2_slice_71 rfl (lv_at hl 3 rfl) ?_
          refine mg_1 (v := I 1) hC hM rfl dX2_slice_72 ?_
          refine r_imul hx hb dX2_slice_75 ?_
          refine lv_iload hx hb dX2_slice_76 (lv_at hl 0 rfl) ?_
          refine r_iadd hx hb dX2_slice_78 ?_
          refine lv_iload hx hb dX2_slice_79 (lv_at hl 2 rfl) ?_
          refine r_bipush hx hb dX2_slice_81 (by decide) ?_
          refine r_irem hx hb dX2_slice_83 (by omega) (by decide) (by decide) ?_
          refine ms_3 (v := ((((lo.tdiv 10).tdiv 10).tdiv 10).tdiv 10).tmod 10) hC hM hS (by omega) dX2_slice_84 (fun H locs hM hS => ?_)
          refine lv_aload_n hx hb dX2_slice_85 rfl (lv_at hl 3 rfl) ?_
          refine mg_3 hC hM dX2_slice_86 ?_
          refine r_bipush hx hb dX2_slice_89 (by decide) ?_
          refine lv_aload_n hx hb dX2_slice_91 rfl (lv_at hl 3 rfl) ?_
          refine mg_1 (v := I 1) hC hM rfl dX2_slice_92 ?_
          refine r_imul hx hb dX2_slice_95 ?_
          refine r_iconst hx hb dX2_slice_96 ?_
          refine r_iadd hx hb dX2_slice_97 ?_
          refine lv_iload hx hb dX2_slice_98 (lv_at hl 0 rfl) ?_
          refine r_iadd hx hb dX2_slice_100 ?_
          refine lv_iload hx hb dX2_slice_101 (lv_at hl 1 rfl) ?_
          refine r_bipush hx hb dX2_slice_103 (by decide) ?_
          refine r_irem hx hb dX2_slice_105 (by omega) (by decide) (by decide) ?_
          refine ms_3 (v := ((((up.tdiv 10).tdiv 10).tdiv 10).tdiv 10).tmod 10) hC hM hS (by omega) dX2_slice_106 (fun H locs hM hS => ?_)
          refine lv_iload hx hb dX2_slice_107 (lv_at hl 2 rfl) ?_
          refine r_bipush hx hb dX2_slice_109 (by decide) ?_
          refine r_idiv hx hb dX2_slice_111 (by omega) (by decide) (by decide) ?_
          refine lv_istore (lv' := [(4, .int (iI (((((lo.tdiv 10).tdiv 10).tdiv 10).tdiv 10).tdiv 10))), (6, .int (iI 0)), (5, .int (iI ((((up.tdiv 10).tdiv 10).tdiv 10).tdiv 10))), (0, .ref h), (1, .int (iI ln)), (2, .int (iI lo)), (3, .int (iI up))]) hx hb dX2_slice_112 hl (by decide) rfl (fun ls hl => ?_)
          refine lv_iload hx hb dX2_slice_114 (lv_at hl 2 rfl) ?_
          refine r_bipush hx hb dX2_slice_116 (by decide) ?_
          refine r_idiv hx hb dX2_slice_118 (by omega) (by decide) (by decide) ?_
          refine lv_istore (lv' := [(5, .int (iI (((((up.tdiv 10).tdiv 10).tdiv 10).tdiv 10).tdiv 10))), (4, .int (iI (((((lo.tdiv 10).tdiv 10).tdiv 10).tdiv 10).tdiv 10))), (6, .int (iI 0)), (0, .ref h), (1, .int (iI ln)), (2, .int (iI lo)), (3, .int (iI up))]) hx hb dX2_slice_119 hl (by decide) rfl (fun ls hl => ?_)
          refine lv_iinc (v := iI (0 + (-1))) (lv' := [(6, .int (iI (0 + (-1)))), (5, .int (iI (((((up.tdiv 10).tdiv 10).tdiv 10).tdiv 10).tdiv 10))), (4, .int (iI (((((lo.tdiv 10).tdiv 10).tdiv 10).tdiv 10).tdiv 10))), (0, .ref h), (1, .int (iI ln)), (2, .int (iI lo)), (3, .int (iI up))]) hx hb dX2_slice_121 hl (k := 2) rfl (iI_add _ _) (by decide) rfl (fun ls hl => ?_)
          refine lv_goto (tgt := 60) hx hb dX2_slice_124 (by decide) ?_
          have hl : lv_has ls 7 [(6, .int (iI (-1))), (5, .int (iI (((((up.tdiv 10).tdiv 10).tdiv 10).tdiv 10).tdiv 10))), (4, .int (iI (((((lo.tdiv 10).tdiv 10).tdiv 10).tdiv 10).tdiv 10))), (0, .ref h), (1, .int (iI ln)), (2, .int (iI lo)), (3, .int (iI up))] := hl
          refine lv_iload hx hb dX2_slice_60 (lv_at hl 0 rfl) ?_
          refine r_if_lt (tgt := 127) hx hb dX2_slice_62 (by decide) (by decide) (fun c18 => ?_) (fun c18 => absurd c18 (by decide))
          refine lv_aload_n hx hb dX2_slice_127 rfl (lv_at hl 3 rfl) ?_
          refine lv_dup hx hb dX2_slice_128 rfl ?_
          refine mg_1 (v := I 1) hC hM rfl dX2_slice_129 ?_
          refine r_iconst hx hb dX2_slice_132 ?_
          refine r_iadd hx hb dX2_slice_133 ?_
          refine mp_1 hC hM hS dX2_slice_134 (fun H locs hM hS => ?_)
          refine lv_aload_n hx hb dX2_slice_137 rfl (lv_at hl 3 rfl) ?_
          refine mg_1 (v := (I 1) + 1) hC hM rfl dX2_slice_138 ?_
          refine r_iconst hx hb dX2_slice_141 ?_
          refine r_isub hx hb dX2_slice_142 ?_
          exact m_iret hC hQ hr hlk hM hS dX2_slice_143 (Or.inl ⟨by omega, by omega, rfl, rfl⟩)
        · refine r_iconst hx hb dX2_slice_39 ?_
          exact m_iret hC hQ hr hlk hM hS dX2_slice_40 (Or.inr ⟨by omega, rfl, rfl, rfl⟩)
theorem dX2_set_0 : decode cX2_set 0 = .ok (.iload_n 1, 1) := by decide +kernel
theorem dX2_set_1 : decode cX2_set 1 = .ok (.ifCond .eq 8, 3) := by decide +kernel
theorem dX2_set_4 : decode cX2_set 4 = .ok (.iload_n 1, 1) := by decide +kernel
theorem dX2_set_5 : decode cX2_set 5 = .ok (.iconst 2, 1) := by decide +kernel
theorem dX2_set_6 : decode cX2_set 6 = .ok (.if_icmp .ne 7, 3) := by decide +kernel
theorem dX2_set_9 : decode cX2_set 9 = .ok (.iconst 1, 1) := by decide +kernel
theorem dX2_set_10 : decode cX2_set 10 = .ok (.goto 4, 3) := by decide +kernel
theorem dX2_set_13 : decode cX2_set 13 = .ok (.iconst 0, 1) := by decide +kernel
theorem dX2_set_14 : decode cX2_set 14 = .ok (.istore_n 3, 1) := by decide +kernel
theorem dX2_set_15 : decode cX2_set 15 = .ok (.iload_n 1, 1) := by decide +kernel
theorem dX2_set_16 : decode cX2_set 16 = .ok (.ifCond .ne 8, 3) := by decide +kernel
theorem dX2_set_19 : decode cX2_set 19 = .ok (.ldc 236, 2) := by decide +kernel
theorem dX2_set_21 : decode cX2_set 21 = .ok (.goto 15, 3) := by decide +kernel
theorem dX2_set_24 : decode cX2_set 24 = .ok (.iload_n 1, 1) := by decide +kernel
theorem dX2_set_25 : decode cX2_set 25 = .ok (.iconst 3, 1) := by decide +kernel
theorem dX2_set_26 : decode cX2_set 26 = .ok (.if_icmp .ne 8, 3) := by decide +kernel
theorem dX2_set_29 : decode cX2_set 29 = .ok (.bipush 9, 2) := by decide +kernel
theorem dX2_set_31 : decode cX2_set 31 = .ok (.goto 5, 3) := by decide +kernel
theorem dX2_set_34 : decode cX2_set 34 = .ok (.bipush 50, 2) := by decide +kernel
theorem dX2_set_36 : decode cX2_set 36 = .ok (.istore 4, 2) := by decide +kernel
theorem dX2_set_38 : decode cX2_set 38 = .ok (.iload_n 1, 1) := by decide +kernel
theorem dX2_set_39 : decode cX2_set 39 = .ok (.iconst 0, 1) := by decide +kernel
theorem dX2_set_40 : decode cX2_set 40 = .ok (.iconst 3, 1) := by decide +kernel
theorem dX2_set_41 : decode cX2_set 41 = .ok (.invokestatic 173, 3) := by decide +kernel
theorem dX2_set_44 : decode cX2_set 44 = .ok (.ifCond .eq 13, 3) := by decide +kernel
theorem dX2_set_47 : decode cX2_set 47 = .ok (.iload_n 2, 1) := by decide +kernel
theorem dX2_set_48 : decode cX2_set 48 = .ok (.iload_n 3, 1) := by decide +kernel
theorem dX2_set_49 : decode cX2_set 49 = .ok (.iload 4, 2) := by decide +kernel
theorem dX2_set_51 : decode cX2_set 51 = .ok (.invokestatic 173, 3) := by decide +kernel
theorem dX2_set_54 : decode cX2_set 54 = .ok (.ifCond .ne 5, 3) := by decide +kernel
theorem dX2_set_57 : decode cX2_set 57 = .ok (.iconst 0, 1) := by decide +kernel
theorem dX2_set_58 : decode cX2_set 58 = .ok (.ireturn, 1) := by decide +kernel
theorem dX2_set_59 : decode cX2_set 59 = .ok (.iload_n 1, 1) := by decide +kernel
theorem dX2_set_60 : decode cX2_set 60 = .ok (.ifCond .ne 11, 3) := by decide +kernel
theorem dX2_set_63 : decode cX2_set 63 = .ok (.aload_n 0, 1) := by decide +kernel
theorem dX2_set_64 : decode cX2_set 64 = .ok (.iload_n 2, 1) := by decide +kernel
theorem dX2_set_65 : decode cX2_set 65 = .ok (.putfield 62, 3) := by decide +kernel
theorem dX2_set_68 : decode cX2_set 68 = .ok (.goto 34, 3) := by decide +kernel
theorem dX2_set_71 : decode cX2_set 71 = .ok (.iload_n 1, 1) := by decide +kernel
theorem dX2_set_72 : decode cX2_set 72 = .ok (.iconst 1, 1) := by decide +kernel
theorem dX2_set_73 : decode cX2_set 73 = .ok (.if_icmp .ne 11, 3) := by decide +kernel
theorem dX2_set_76 : decode cX2_set 76 = .ok (.aload_n 0, 1) := by decide +kernel
theorem dX2_set_77 : decode cX2_set 77 = .ok (.iload_n 2, 1) := by decide +kernel
theorem dX2_set_78 : decode cX2_set 78 = .ok (.putfield 66, 3) := by decide +kernel
theorem dX2_set_81 : decode cX2_set 81 = .ok (.goto 21, 3) := by decide +kernel
theorem dX2_set_84 : decode cX2_set 84 = .ok (.iload_n 1, 1) := by decide +kernel
theorem dX2_set_85 : decode cX2_set 85 = .ok (.iconst 2, 1) := by decide +kernel
theorem dX2_set_86 : decode cX2_set 86 = .ok (.if_icmp .ne 11, 3) := by decide +kernel
theorem dX2_set_89 : decode cX2_set 89 = .ok (.aload_n 0, 1) := by decide +kernel
theorem dX2_set_90 : decode cX2_set 90 = .ok (.iload_n 2, 1) := by decide +kernel
theorem dX2_set_91 : decode cX2_set 91 = .ok (.putfield 69, 3) := by decide +kernel
theorem dX2_set_94 : decode cX2_set 94 = .ok (.goto 8, 3) := by decide +kernel
theorem dX2_set_97 : decode cX2_set 97 = .ok (.aload_n 0, 1) := by decide +kernel
theorem dX2_set_98 : decode cX2_set 98 = .ok (.iload_n 2, 1) := by decide +kernel
theorem dX2_set_99 : decode cX2_set 99 = .ok (.putfield 237, 3) := by decide +kernel
theorem dX2_set_102 : decode cX2_set 102 = .ok (.iconst 1, 1) := by decide +kernel
theorem dX2_set_103 : decode cX2_set 103 = .ok (.ireturn, 1) := by decide +kernel
set_option maxHeartbeats 4000000 in
theorem met_set (l : Launch) (D : va_G) (E : Nat → ClassId) (A : Nat → Prop) (h : Nat) (ad : Nat → Nat) (I : Nat → Int) (F : Nat → Int → Int) (wh vl : Int) (r_wh : R32 wh) (r_vl : R32 vl) : MM l yX2_set cX2_set 5 (some .boolean) (mrm 1) D E A h ad [.int (iI wh), .int (iI vl)] I F (MQi D E A h ad (fun z I1 F1 => (((wh = 0 ∧ 1 ≤ vl ∧ vl ≤ 1000000) ∨ (wh = 1 ∧ 0 ≤ vl ∧ vl ≤ 50) ∨ (wh = 2 ∧ 1 ≤ vl ∧ vl ≤ 50) ∨ (wh = 3 ∧ 0 ≤ vl ∧ vl ≤ 9)) ∧ 1 = z ∧ (if wh = 0 then va_up I 22 vl else if wh = 1 then va_up I 23 vl else if wh = 2 then va_up I 24 vl else va_up I 25 vl) = I1 ∧ F = F1) ∨ (¬ ((wh = 0 ∧ 1 ≤ vl ∧ vl ≤ 1000000) ∨ (wh = 1 ∧ 0 ≤ vl ∧ vl ≤ 50) ∨ (wh = 2 ∧ 1 ≤ vl ∧ vl ≤ 50) ∨ (wh = 3 ∧ 0 ≤ vl ∧ vl ≤ 9)) ∧ 0 = z ∧ I = I1 ∧ F = F1))) := by
  refine m_start (by decide) rfl (Nat.le_of_ble_eq_true rfl) ?_
  intro p e R s m args below meth c ls Q hR hQ hC hml hr hlk hM hS hl
  have hx := hC.1
  have hb := hC.2.1
  have hown := hC.2.2.1
  have hts := hC.2.2.2.1
  have hl : lv_has ls 5 [(0, .ref h), (1, .int (iI wh)), (2, .int (iI vl))] := hl
  refine lv_iload_n hx hb dX2_set_0 rfl (lv_at hl 1 rfl) ?_
  refine r_if_eq (tgt := 9) hx hb dX2_set_1 (by decide) r_wh (fun c1 => ?_) (fun c1 => ?_)
  · refine r_iconst hx hb dX2_set_9 ?_
    refine lv_goto (tgt := 14) hx hb dX2_set_10 (by decide) ?_
    refine lv_istore_n (lv' := [(3, .int (iI 1)), (0, .ref h), (1, .int (iI wh)), (2, .int (iI vl))]) hx hb dX2_set_14 rfl hl (by decide) rfl (fun ls hl => ?_)
    refine lv_iload_n hx hb dX2_set_15 rfl (lv_at hl 2 rfl) ?_
    refine r_if_ne (tgt := 24) hx hb dX2_set_16 (by decide) r_wh (fun c2 => ?_) (fun c2 => ?_)
    · refine lv_iload_n hx hb dX2_set_24 rfl (lv_at hl 2 rfl) ?_
      refine r_iconst hx hb dX2_set_25 ?_
      refine r_icmp_ne (tgt := 34) hx hb dX2_set_26 (by decide) r_wh (by decide) (fun c3 => ?_) (fun c3 => ?_)
      · refine r_bipush hx hb dX2_set_34 (by decide) ?_
        refine lv_istore (lv' := [(4, .int (iI 50)), (3, .int (iI 1)), (0, .ref h), (1, .int (iI wh)), (2, .int (iI vl))]) hx hb dX2_set_36 hl (by decide) rfl (fun ls hl => ?_)
        refine lv_iload_n hx hb dX2_set_38 rfl (lv_at hl 3 rfl) ?_
        refine r_iconst hx hb dX2_set_39 ?_
        refine r_iconst hx hb dX2_set_40 ?_
        refine s_calli (kX2_X2_in (rest := []) (as := [.int (iI wh), .int (iI 0), .int (iI 3)]) hx hb hml hown hts (met_in l wh 0 3 r_wh (by decide) (by decide)) ⟨rfl, rfl⟩ hR (by decide) rfl hl.1 rfl (Nat.le_of_ble_eq_true rfl) dX2_set_41) ?_
        refine r_ifeqB (tgt := 57) hx hb dX2_set_44 (by decide) (fun c4 => ?_) (fun c4 => ?_)
        · refine r_iconst hx hb dX2_set_57 ?_
          exact m_zret hC hQ hr hlk hM hS (by decide) dX2_set_58 (Or.inr ⟨by omega, rfl, rfl, rfl⟩)
        · refine lv_iload_n hx hb dX2_set_47 rfl (lv_at hl 4 rfl) ?_
          refine lv_iload_n hx hb dX2_set_48 rfl (lv_at hl 1 rfl) ?_
          refine lv_iload hx hb dX2_set_49 (lv_at hl 0 rfl) ?_
          refine s_calli (kX2_X2_in (rest := []) (as := [.int (iI vl), .int (iI 1), .int (iI 50)]) hx hb hml hown hts (met_in l vl 1 50 r_vl (by decide) (by decide)) ⟨rfl, rfl⟩ hR (by decide) rfl hl.1 rfl (Nat.le_of_ble_eq_true rfl) dX2_set_51) ?_
          refine r_ifneB (tgt := 59) hx hb dX2_set_54 (by decide) (fun c5 => ?_) (fun c5 => ?_)
          · refine lv_iload_n hx hb dX2_set_59 rfl (lv_at hl 3 rfl) ?_
            refine r_if_ne (tgt := 71) hx hb dX2_set_60 (by decide) r_wh (fun c6 => ?_) (fun c6 => ?_)
            · refine lv_iload_n hx hb dX2_set_71 rfl (lv_at hl 3 rfl) ?_
              refine r_iconst hx hb dX2_set_72 ?_
              refine r_icmp_ne (tgt := 84) hx hb dX2_set_73 (by decide) r_wh (by decide) (fun c7 => ?_) (fun c7 => ?_)
              · refine lv_iload_n hx hb dX2_set_84 rfl (lv_at hl 3 rfl) ?_
                refine r_iconst hx hb dX2_set_85 ?_
                refine r_icmp_ne (tgt := 97) hx hb dX2_set_86 (by decide) r_wh (by decide) (fun c8 => ?_) (fun c8 => ?_)
                · refine lv_aload_n hx hb dX2_set_97 rfl (lv_at hl 2 rfl) ?_
                  refine lv_iload_n hx hb dX2_set_98 rfl (lv_at hl 4 rfl) ?_
                  refine mp_25 hC hM hS dX2_set_99 (fun H locs hM hS => ?_)
                  refine r_iconst hx hb dX2_set_102 ?_
                  exact m_zret hC hQ hr hlk hM hS (by decide) dX2_set_103 (Or.inl ⟨by omega, rfl, by split <;> (try split) <;> (try split) <;> first | rfl | omega, rfl⟩)
                · refine lv_aload_n hx hb dX2_set_89 rfl (lv_at hl 2 rfl) ?_
                  refine lv_iload_n hx hb dX2_set_90 rfl (lv_at hl 4 rfl) ?_
                  refine mp_24 hC hM hS dX2_set_91 (fun H locs hM hS => ?_)
                  refine lv_goto (tgt := 102) hx hb dX2_set_94 (by decide) ?_
                  refine r_iconst hx hb dX2_set_102 ?_
                  exact m_zret hC hQ hr hlk hM hS (by decide) dX2_set_103 (Or.inl ⟨by omega, rfl, by split <;> (try split) <;> (try split) <;> first | rfl | omega, rfl⟩)
              · refine lv_aload_n hx hb dX2_set_76 rfl (lv_at hl 2 rfl) ?_
                refine lv_iload_n hx hb dX2_set_77 rfl (lv_at hl 4 rfl) ?_
                refine mp_23 hC hM hS dX2_set_78 (fun H locs hM hS => ?_)
                refine lv_goto (tgt := 102) hx hb dX2_set_81 (by decide) ?_
                refine r_iconst hx hb dX2_set_102 ?_
                exact m_zret hC hQ hr hlk hM hS (by decide) dX2_set_103 (Or.inl ⟨by omega, rfl, by split <;> (try split) <;> (try split) <;> first | rfl | omega, rfl⟩)
            · refine lv_aload_n hx hb dX2_set_63 rfl (lv_at hl 2 rfl) ?_
              refine lv_iload_n hx hb dX2_set_64 rfl (lv_at hl 4 rfl) ?_
              refine mp_22 hC hM hS dX2_set_65 (fun H locs hM hS => ?_)
              refine lv_goto (tgt := 102) hx hb dX2_set_68 (by decide) ?_
              refine r_iconst hx hb dX2_set_102 ?_
              exact m_zret hC hQ hr hlk hM hS (by decide) dX2_set_103 (Or.inl ⟨by omega, rfl, by split <;> (try split) <;> (try split) <;> first | rfl | omega, rfl⟩)
          · refine r_iconst hx hb dX2_set_57 ?_
            exact m_zret hC hQ hr hlk hM hS (by decide) dX2_set_58 (Or.inr ⟨by omega, rfl, rfl, rfl⟩)
      · refine r_bipush hx hb dX2_set_29 (by decide) ?_
        refine lv_goto (tgt := 36) hx hb dX2_set_31 (by decide) ?_
        refine lv_istore (lv' := [(4, .int (iI 9)), (3, .int (iI 1)), (0, .ref h), (1, .int (iI wh)), (2, .int (iI vl))]) hx hb dX2_set_36 hl (by decide) rfl (fun ls hl => ?_)
        refine lv_iload_n hx hb dX2_set_38 rfl (lv_at hl 3 rfl) ?_
        refine r_iconst hx hb dX2_set_39 ?_
        refine r_iconst hx hb dX2_set_40 ?_
        refine s_calli (kX2_X2_in (rest := []) (as := [.int (iI wh), .int (iI 0), .int (iI 3)]) hx hb hml hown hts (met_in l wh 0 3 r_wh (by decide) (by decide)) ⟨rfl, rfl⟩ hR (by decide) rfl hl.1 rfl (Nat.le_of_ble_eq_true rfl) dX2_set_41) ?_
        refine r_ifeqB (tgt := 57) hx hb dX2_set_44 (by decide) (fun c9 => ?_) (fun c9 => ?_)
        · refine r_iconst hx hb dX2_set_57 ?_
          exact m_zret hC hQ hr hlk hM hS (by decide) dX2_set_58 (Or.inr ⟨by omega, rfl, rfl, rfl⟩)
        · refine lv_iload_n hx hb dX2_set_47 rfl (lv_at hl 4 rfl) ?_
          refine lv_iload_n hx hb dX2_set_48 rfl (lv_at hl 1 rfl) ?_
          refine lv_iload hx hb dX2_set_49 (lv_at hl 0 rfl) ?_
          refine s_calli (kX2_X2_in (rest := []) (as := [.int (iI vl), .int (iI 1), .int (iI 9)]) hx hb hml hown hts (met_in l vl 1 9 r_vl (by decide) (by decide)) ⟨rfl, rfl⟩ hR (by decide) rfl hl.1 rfl (Nat.le_of_ble_eq_true rfl) dX2_set_51) ?_
          refine r_ifneB (tgt := 59) hx hb dX2_set_54 (by decide) (fun c10 => ?_) (fun c10 => ?_)
          · refine lv_iload_n hx hb dX2_set_59 rfl (lv_at hl 3 rfl) ?_
            refine r_if_ne (tgt := 71) hx hb dX2_set_60 (by decide) r_wh (fun c11 => ?_) (fun c11 => ?_)
            · refine lv_iload_n hx hb dX2_set_71 rfl (lv_at hl 3 rfl) ?_
              refine r_iconst hx hb dX2_set_72 ?_
              refine r_icmp_ne (tgt := 84) hx hb dX2_set_73 (by decide) r_wh (by decide) (fun c12 => ?_) (fun c12 => ?_)
              · refine lv_iload_n hx hb dX2_set_84 rfl (lv_at hl 3 rfl) ?_
                refine r_iconst hx hb dX2_set_85 ?_
                refine r_icmp_ne (tgt := 97) hx hb dX2_set_86 (by decide) r_wh (by decide) (fun c13 => ?_) (fun c13 => ?_)
                · refine lv_aload_n hx hb dX2_set_97 rfl (lv_at hl 2 rfl) ?_
                  refine lv_iload_n hx hb dX2_set_98 rfl (lv_at hl 4 rfl) ?_
                  refine mp_25 hC hM hS dX2_set_99 (fun H locs hM hS => ?_)
                  refine r_iconst hx hb dX2_set_102 ?_
                  exact m_zret hC hQ hr hlk hM hS (by decide) dX2_set_103 (Or.inl ⟨by omega, rfl, by split <;> (try split) <;> (try split) <;> first | rfl | omega, rfl⟩)
                · refine lv_aload_n hx hb dX2_set_89 rfl (lv_at hl 2 rfl) ?_
                  refine lv_iload_n hx hb dX2_set_90 rfl (lv_at hl 4 rfl) ?_
                  refine mp_24 hC hM hS dX2_set_91 (fun H locs hM hS => ?_)
                  refine lv_goto (tgt := 102) hx hb dX2_set_94 (by decide) ?_
                  refine r_iconst hx hb dX2_set_102 ?_
                  exact m_zret hC hQ hr hlk hM hS (by decide) dX2_set_103 (Or.inl ⟨by omega, rfl, by split <;> (try split) <;> (try split) <;> first | rfl | omega, rfl⟩)
              · refine lv_aload_n hx hb dX2_set_76 rfl (lv_at hl 2 rfl) ?_
                refine lv_iload_n hx hb dX2_set_77 rfl (lv_at hl 4 rfl) ?_
                refine mp_23 hC hM hS dX2_set_78 (fun H locs hM hS => ?_)
                refine lv_goto (tgt := 102) hx hb dX2_set_81 (by decide) ?_
                refine r_iconst hx hb dX2_set_102 ?_
                exact m_zret hC hQ hr hlk hM hS (by decide) dX2_set_103 (Or.inl ⟨by omega, rfl, by split <;> (try split) <;> (try split) <;> first | rfl | omega, rfl⟩)
            · refine lv_aload_n hx hb dX2_set_63 rfl (lv_at hl 2 rfl) ?_
              refine lv_iload_n hx hb dX2_set_64 rfl (lv_at hl 4 rfl) ?_
              refine mp_22 hC hM hS dX2_set_65 (fun H locs hM hS => ?_)
              refine lv_goto (tgt := 102) hx hb dX2_set_68 (by decide) ?_
              refine r_iconst hx hb dX2_set_102 ?_
              exact m_zret hC hQ hr hlk hM hS (by decide) dX2_set_103 (Or.inl ⟨by omega, rfl, by split <;> (try split) <;> (try split) <;> first | rfl | omega, rfl⟩)
          · refine r_iconst hx hb dX2_set_57 ?_
            exact m_zret hC hQ hr hlk hM hS (by decide) dX2_set_58 (Or.inr ⟨by omega, rfl, rfl, rfl⟩)
    · refine r_ldc hx hb 1000000 hown (hts _ q1341) (by decide) dX2_set_19 ?_
      refine lv_goto (tgt := 36) hx hb dX2_set_21 (by decide) ?_
      refine lv_istore (lv' := [(4, .int (iI 1000000)), (3, .int (iI 1)), (0, .ref h), (1, .int (iI wh)), (2, .int (iI vl))]) hx hb dX2_set_36 hl (by decide) rfl (fun ls hl => ?_)
      refine lv_iload_n hx hb dX2_set_38 rfl (lv_at hl 3 rfl) ?_
      refine r_iconst hx hb dX2_set_39 ?_
      refine r_iconst hx hb dX2_set_40 ?_
      refine s_calli (kX2_X2_in (rest := []) (as := [.int (iI wh), .int (iI 0), .int (iI 3)]) hx hb hml hown hts (met_in l wh 0 3 r_wh (by decide) (by decide)) ⟨rfl, rfl⟩ hR (by decide) rfl hl.1 rfl (Nat.le_of_ble_eq_true rfl) dX2_set_41) ?_
      refine r_ifeqB (tgt := 57) hx hb dX2_set_44 (by decide) (fun c14 => ?_) (fun c14 => ?_)
      · refine r_iconst hx hb dX2_set_57 ?_
        exact m_zret hC hQ hr hlk hM hS (by decide) dX2_set_58 (Or.inr ⟨by omega, rfl, rfl, rfl⟩)
      · refine lv_iload_n hx hb dX2_set_47 rfl (lv_at hl 4 rfl) ?_
        refine lv_iload_n hx hb dX2_set_48 rfl (lv_at hl 1 rfl) ?_
        refine lv_iload hx hb dX2_set_49 (lv_at hl 0 rfl) ?_
        refine s_calli (kX2_X2_in (rest := []) (as := [.int (iI vl), .int (iI 1), .int (iI 1000000)]) hx hb hml hown hts (met_in l vl 1 1000000 r_vl (by decide) (by decide)) ⟨rfl, rfl⟩ hR (by decide) rfl hl.1 rfl (Nat.le_of_ble_eq_true rfl) dX2_set_51) ?_
        refine r_ifneB (tgt := 59) hx hb dX2_set_54 (by decide) (fun c15 => ?_) (fun c15 => ?_)
        · refine lv_iload_n hx hb dX2_set_59 rfl (lv_at hl 3 rfl) ?_
          refine r_if_ne (tgt := 71) hx hb dX2_set_60 (by decide) r_wh (fun c16 => ?_) (fun c16 => ?_)
          · refine lv_iload_n hx hb dX2_set_71 rfl (lv_at hl 3 rfl) ?_
            refine r_iconst hx hb dX2_set_72 ?_
            refine r_icmp_ne (tgt := 84) hx hb dX2_set_73 (by decide) r_wh (by decide) (fun c17 => ?_) (fun c17 => ?_)
            · refine lv_iload_n hx hb dX2_set_84 rfl (lv_at hl 3 rfl) ?_
              refine r_iconst hx hb dX2_set_85 ?_
              refine r_icmp_ne (tgt := 97) hx hb dX2_set_86 (by decide) r_wh (by decide) (fun c18 => ?_) (fun c18 => ?_)
              · refine lv_aload_n hx hb dX2_set_97 rfl (lv_at hl 2 rfl) ?_
                refine lv_iload_n hx hb dX2_set_98 rfl (lv_at hl 4 rfl) ?_
                refine mp_25 hC hM hS dX2_set_99 (fun H locs hM hS => ?_)
                refine r_iconst hx hb dX2_set_102 ?_
                exact m_zret hC hQ hr hlk hM hS (by decide) dX2_set_103 (Or.inl ⟨by omega, rfl, by split <;> (try split) <;> (try split) <;> first | rfl | omega, rfl⟩)
              · refine lv_aload_n hx hb dX2_set_89 rfl (lv_at hl 2 rfl) ?_
                refine lv_iload_n hx hb dX2_set_90 rfl (lv_at hl 4 rfl) ?_
                refine mp_24 hC hM hS dX2_set_91 (fun H locs hM hS => ?_)
                refine lv_goto (tgt := 102) hx hb dX2_set_94 (by decide) ?_
                refine r_iconst hx hb dX2_set_102 ?_
                exact m_zret hC hQ hr hlk hM hS (by decide) dX2_set_103 (Or.inl ⟨by omega, rfl, by split <;> (try split) <;> (try split) <;> first | rfl | omega, rfl⟩)
            · refine lv_aload_n hx hb dX2_set_76 rfl (lv_at hl 2 rfl) ?_
              refine lv_iload_n hx hb dX2_set_77 rfl (lv_at hl 4 rfl) ?_
              refine mp_23 hC hM hS dX2_set_78 (fun H locs hM hS => ?_)
              refine lv_goto (tgt := 102) hx hb dX2_set_81 (by decide) ?_
              refine r_iconst hx hb dX2_set_102 ?_
              exact m_zret hC hQ hr hlk hM hS (by decide) dX2_set_103 (Or.inl ⟨by omega, rfl, by split <;> (try split) <;> (try split) <;> first | rfl | omega, rfl⟩)
          · refine lv_aload_n hx hb dX2_set_63 rfl (lv_at hl 2 rfl) ?_
            refine lv_iload_n hx hb dX2_set_64 rfl (lv_at hl 4 rfl) ?_
            refine mp_22 hC hM hS dX2_set_65 (fun H locs hM hS => ?_)
            refine lv_goto (tgt := 102) hx hb dX2_set_68 (by decide) ?_
            refine r_iconst hx hb dX2_set_102 ?_
            exact m_zret hC hQ hr hlk hM hS (by decide) dX2_set_103 (Or.inl ⟨by omega, rfl, by split <;> (try split) <;> (try split) <;> first | rfl | omega, rfl⟩)
        · refine r_iconst hx hb dX2_set_57 ?_
          exact m_zret hC hQ hr hlk hM hS (by decide) dX2_set_58 (Or.inr ⟨by omega, rfl, rfl, rfl⟩)
  · refine lv_iload_n hx hb dX2_set_4 rfl (lv_at hl 1 rfl) ?_
    refine r_iconst hx hb dX2_set_5 ?_
    refine r_icmp_ne (tgt := 13) hx hb dX2_set_6 (by decide) r_wh (by decide) (fun c19 => ?_) (fun c19 => ?_)
    · refine r_iconst hx hb dX2_set_13 ?_
      refine lv_istore_n (lv' := [(3, .int (iI 0)), (0, .ref h), (1, .int (iI wh)), (2, .int (iI vl))]) hx hb dX2_set_14 rfl hl (by decide) rfl (fun ls hl => ?_)
      refine lv_iload_n hx hb dX2_set_15 rfl (lv_at hl 2 rfl) ?_
      refine r_if_ne (tgt := 24) hx hb dX2_set_16 (by decide) r_wh (fun c20 => ?_) (fun c20 => ?_)
      · refine lv_iload_n hx hb dX2_set_24 rfl (lv_at hl 2 rfl) ?_
        refine r_iconst hx hb dX2_set_25 ?_
        refine r_icmp_ne (tgt := 34) hx hb dX2_set_26 (by decide) r_wh (by decide) (fun c21 => ?_) (fun c21 => ?_)
        · refine r_bipush hx hb dX2_set_34 (by decide) ?_
          refine lv_istore (lv' := [(4, .int (iI 50)), (3, .int (iI 0)), (0, .ref h), (1, .int (iI wh)), (2, .int (iI vl))]) hx hb dX2_set_36 hl (by decide) rfl (fun ls hl => ?_)
          refine lv_iload_n hx hb dX2_set_38 rfl (lv_at hl 3 rfl) ?_
          refine r_iconst hx hb dX2_set_39 ?_
          refine r_iconst hx hb dX2_set_40 ?_
          refine s_calli (kX2_X2_in (rest := []) (as := [.int (iI wh), .int (iI 0), .int (iI 3)]) hx hb hml hown hts (met_in l wh 0 3 r_wh (by decide) (by decide)) ⟨rfl, rfl⟩ hR (by decide) rfl hl.1 rfl (Nat.le_of_ble_eq_true rfl) dX2_set_41) ?_
          refine r_ifeqB (tgt := 57) hx hb dX2_set_44 (by decide) (fun c22 => ?_) (fun c22 => ?_)
          · refine r_iconst hx hb dX2_set_57 ?_
            exact m_zret hC hQ hr hlk hM hS (by decide) dX2_set_58 (Or.inr ⟨by omega, rfl, rfl, rfl⟩)
          · refine lv_iload_n hx hb dX2_set_47 rfl (lv_at hl 4 rfl) ?_
            refine lv_iload_n hx hb dX2_set_48 rfl (lv_at hl 1 rfl) ?_
            refine lv_iload hx hb dX2_set_49 (lv_at hl 0 rfl) ?_
            refine s_calli (kX2_X2_in (rest := []) (as := [.int (iI vl), .int (iI 0), .int (iI 50)]) hx hb hml hown hts (met_in l vl 0 50 r_vl (by decide) (by decide)) ⟨rfl, rfl⟩ hR (by decide) rfl hl.1 rfl (Nat.le_of_ble_eq_true rfl) dX2_set_51) ?_
            refine r_ifneB (tgt := 59) hx hb dX2_set_54 (by decide) (fun c23 => ?_) (fun c23 => ?_)
            · refine lv_iload_n hx hb dX2_set_59 rfl (lv_at hl 3 rfl) ?_
              refine r_if_ne (tgt := 71) hx hb dX2_set_60 (by decide) r_wh (fun c24 => ?_) (fun c24 => ?_)
              · refine lv_iload_n hx hb dX2_set_71 rfl (lv_at hl 3 rfl) ?_
                refine r_iconst hx hb dX2_set_72 ?_
                refine r_icmp_ne (tgt := 84) hx hb dX2_set_73 (by decide) r_wh (by decide) (fun c25 => ?_) (fun c25 => ?_)
                · refine lv_iload_n hx hb dX2_set_84 rfl (lv_at hl 3 rfl) ?_
                  refine r_iconst hx hb dX2_set_85 ?_
                  refine r_icmp_ne (tgt := 97) hx hb dX2_set_86 (by decide) r_wh (by decide) (fun c26 => ?_) (fun c26 => ?_)
                  · refine lv_aload_n hx hb dX2_set_97 rfl (lv_at hl 2 rfl) ?_
                    refine lv_iload_n hx hb dX2_set_98 rfl (lv_at hl 4 rfl) ?_
                    refine mp_25 hC hM hS dX2_set_99 (fun H locs hM hS => ?_)
                    refine r_iconst hx hb dX2_set_102 ?_
                    exact m_zret hC hQ hr hlk hM hS (by decide) dX2_set_103 (Or.inl ⟨by omega, rfl, by split <;> (try split) <;> (try split) <;> first | rfl | omega, rfl⟩)
                  · refine lv_aload_n hx hb dX2_set_89 rfl (lv_at hl 2 rfl) ?_
                    refine lv_iload_n hx hb dX2_set_90 rfl (lv_at hl 4 rfl) ?_
                    refine mp_24 hC hM hS dX2_set_91 (fun H locs hM hS => ?_)
                    refine lv_goto (tgt := 102) hx hb dX2_set_94 (by decide) ?_
                    refine r_iconst hx hb dX2_set_102 ?_
                    exact m_zret hC hQ hr hlk hM hS (by decide) dX2_set_103 (Or.inl ⟨by omega, rfl, by split <;> (try split) <;> (try split) <;> first | rfl | omega, rfl⟩)
                · refine lv_aload_n hx hb dX2_set_76 rfl (lv_at hl 2 rfl) ?_
                  refine lv_iload_n hx hb dX2_set_77 rfl (lv_at hl 4 rfl) ?_
                  refine mp_23 hC hM hS dX2_set_78 (fun H locs hM hS => ?_)
                  refine lv_goto (tgt := 102) hx hb dX2_set_81 (by decide) ?_
                  refine r_iconst hx hb dX2_set_102 ?_
                  exact m_zret hC hQ hr hlk hM hS (by decide) dX2_set_103 (Or.inl ⟨by omega, rfl, by split <;> (try split) <;> (try split) <;> first | rfl | omega, rfl⟩)
              · refine lv_aload_n hx hb dX2_set_63 rfl (lv_at hl 2 rfl) ?_
                refine lv_iload_n hx hb dX2_set_64 rfl (lv_at hl 4 rfl) ?_
                refine mp_22 hC hM hS dX2_set_65 (fun H locs hM hS => ?_)
                refine lv_goto (tgt := 102) hx hb dX2_set_68 (by decide) ?_
                refine r_iconst hx hb dX2_set_102 ?_
                exact m_zret hC hQ hr hlk hM hS (by decide) dX2_set_103 (Or.inl ⟨by omega, rfl, by split <;> (try split) <;> (try split) <;> first | rfl | omega, rfl⟩)
            · refine r_iconst hx hb dX2_set_57 ?_
              exact m_zret hC hQ hr hlk hM hS (by decide) dX2_set_58 (Or.inr ⟨by omega, rfl, rfl, rfl⟩)
        · refine r_bipush hx hb dX2_set_29 (by decide) ?_
          refine lv_goto (tgt := 36) hx hb dX2_set_31 (by decide) ?_
          refine lv_istore (lv' := [(4, .int (iI 9)), (3, .int (iI 0)), (0, .ref h), (1, .int (iI wh)), (2, .int (iI vl))]) hx hb dX2_set_36 hl (by decide) rfl (fun ls hl => ?_)
          refine lv_iload_n hx hb dX2_set_38 rfl (lv_at hl 3 rfl) ?_
          refine r_iconst hx hb dX2_set_39 ?_
          refine r_iconst hx hb dX2_set_40 ?_
          refine s_calli (kX2_X2_in (rest := []) (as := [.int (iI wh), .int (iI 0), .int (iI 3)]) hx hb hml hown hts (met_in l wh 0 3 r_wh (by decide) (by decide)) ⟨rfl, rfl⟩ hR (by decide) rfl hl.1 rfl (Nat.le_of_ble_eq_true rfl) dX2_set_41) ?_
          refine r_ifeqB (tgt := 57) hx hb dX2_set_44 (by decide) (fun c27 => ?_) (fun c27 => ?_)
          · refine r_iconst hx hb dX2_set_57 ?_
            exact m_zret hC hQ hr hlk hM hS (by decide) dX2_set_58 (Or.inr ⟨by omega, rfl, rfl, rfl⟩)
          · refine lv_iload_n hx hb dX2_set_47 rfl (lv_at hl 4 rfl) ?_
            refine lv_iload_n hx hb dX2_set_48 rfl (lv_at hl 1 rfl) ?_
            refine lv_iload hx hb dX2_set_49 (lv_at hl 0 rfl) ?_
            refine s_calli (kX2_X2_in (rest := []) (as := [.int (iI vl), .int (iI 0), .int (iI 9)]) hx hb hml hown hts (met_in l vl 0 9 r_vl (by decide) (by decide)) ⟨rfl, rfl⟩ hR (by decide) rfl hl.1 rfl (Nat.le_of_ble_eq_true rfl) dX2_set_51) ?_
            refine r_ifneB (tgt := 59) hx hb dX2_set_54 (by decide) (fun c28 => ?_) (fun c28 => ?_)
            · refine lv_iload_n hx hb dX2_set_59 rfl (lv_at hl 3 rfl) ?_
              refine r_if_ne (tgt := 71) hx hb dX2_set_60 (by decide) r_wh (fun c29 => ?_) (fun c29 => ?_)
              · refine lv_iload_n hx hb dX2_set_71 rfl (lv_at hl 3 rfl) ?_
                refine r_iconst hx hb dX2_set_72 ?_
                refine r_icmp_ne (tgt := 84) hx hb dX2_set_73 (by decide) r_wh (by decide) (fun c30 => ?_) (fun c30 => ?_)
                · refine lv_iload_n hx hb dX2_set_84 rfl (lv_at hl 3 rfl) ?_
                  refine r_iconst hx hb dX2_set_85 ?_
                  refine r_icmp_ne (tgt := 97) hx hb dX2_set_86 (by decide) r_wh (by decide) (fun c31 => ?_) (fun c31 => ?_)
                  · refine lv_aload_n hx hb dX2_set_97 rfl (lv_at hl 2 rfl) ?_
                    refine lv_iload_n hx hb dX2_set_98 rfl (lv_at hl 4 rfl) ?_
                    refine mp_25 hC hM hS dX2_set_99 (fun H locs hM hS => ?_)
                    refine r_iconst hx hb dX2_set_102 ?_
                    exact m_zret hC hQ hr hlk hM hS (by decide) dX2_set_103 (Or.inl ⟨by omega, rfl, by split <;> (try split) <;> (try split) <;> first | rfl | omega, rfl⟩)
                  · refine lv_aload_n hx hb dX2_set_89 rfl (lv_at hl 2 rfl) ?_
                    refine lv_iload_n hx hb dX2_set_90 rfl (lv_at hl 4 rfl) ?_
                    refine mp_24 hC hM hS dX2_set_91 (fun H locs hM hS => ?_)
                    refine lv_goto (tgt := 102) hx hb dX2_set_94 (by decide) ?_
                    refine r_iconst hx hb dX2_set_102 ?_
                    exact m_zret hC hQ hr hlk hM hS (by decide) dX2_set_103 (Or.inl ⟨by omega, rfl, by split <;> (try split) <;> (try split) <;> first | rfl | omega, rfl⟩)
                · refine lv_aload_n hx hb dX2_set_76 rfl (lv_at hl 2 rfl) ?_
                  refine lv_iload_n hx hb dX2_set_77 rfl (lv_at hl 4 rfl) ?_
                  refine mp_23 hC hM hS dX2_set_78 (fun H locs hM hS => ?_)
                  refine lv_goto (tgt := 102) hx hb dX2_set_81 (by decide) ?_
                  refine r_iconst hx hb dX2_set_102 ?_
                  exact m_zret hC hQ hr hlk hM hS (by decide) dX2_set_103 (Or.inl ⟨by omega, rfl, by split <;> (try split) <;> (try split) <;> first | rfl | omega, rfl⟩)
              · refine lv_aload_n hx hb dX2_set_63 rfl (lv_at hl 2 rfl) ?_
                refine lv_iload_n hx hb dX2_set_64 rfl (lv_at hl 4 rfl) ?_
                refine mp_22 hC hM hS dX2_set_65 (fun H locs hM hS => ?_)
                refine lv_goto (tgt := 102) hx hb dX2_set_68 (by decide) ?_
                refine r_iconst hx hb dX2_set_102 ?_
                exact m_zret hC hQ hr hlk hM hS (by decide) dX2_set_103 (Or.inl ⟨by omega, rfl, by split <;> (try split) <;> (try split) <;> first | rfl | omega, rfl⟩)
            · refine r_iconst hx hb dX2_set_57 ?_
              exact m_zret hC hQ hr hlk hM hS (by decide) dX2_set_58 (Or.inr ⟨by omega, rfl, rfl, rfl⟩)
      · refine r_ldc hx hb 1000000 hown (hts _ q1341) (by decide) dX2_set_19 ?_
        refine lv_goto (tgt := 36) hx hb dX2_set_21 (by decide) ?_
        refine lv_istore (lv' := [(4, .int (iI 1000000)), (3, .int (iI 0)), (0, .ref h), (1, .int (iI wh)), (2, .int (iI vl))]) hx hb dX2_set_36 hl (by decide) rfl (fun ls hl => ?_)
        refine lv_iload_n hx hb dX2_set_38 rfl (lv_at hl 3 rfl) ?_
        refine r_iconst hx hb dX2_set_39 ?_
        refine r_iconst hx hb dX2_set_40 ?_
        refine s_calli (kX2_X2_in (rest := []) (as := [.int (iI wh), .int (iI 0), .int (iI 3)]) hx hb hml hown hts (met_in l wh 0 3 r_wh (by decide) (by decide)) ⟨rfl, rfl⟩ hR (by decide) rfl hl.1 rfl (Nat.le_of_ble_eq_true rfl) dX2_set_41) ?_
        refine r_ifeqB (tgt := 57) hx hb dX2_set_44 (by decide) (fun c32 => ?_) (fun c32 => ?_)
        · refine r_iconst hx hb dX2_set_57 ?_
          exact m_zret hC hQ hr hlk hM hS (by decide) dX2_set_58 (Or.inr ⟨by omega, rfl, rfl, rfl⟩)
        · refine lv_iload_n hx hb dX2_set_47 rfl (lv_at hl 4 rfl) ?_
          refine lv_iload_n hx hb dX2_set_48 rfl (lv_at hl 1 rfl) ?_
          refine lv_iload hx hb dX2_set_49 (lv_at hl 0 rfl) ?_
          refine s_calli (kX2_X2_in (rest := []) (as := [.int (iI vl), .int (iI 0), .int (iI 1000000)]) hx hb hml hown hts (met_in l vl 0 1000000 r_vl (by decide) (by decide)) ⟨rfl, rfl⟩ hR (by decide) rfl hl.1 rfl (Nat.le_of_ble_eq_true rfl) dX2_set_51) ?_
          refine r_ifneB (tgt := 59) hx hb dX2_set_54 (by decide) (fun c33 => ?_) (fun c33 => ?_)
          · refine lv_iload_n hx hb dX2_set_59 rfl (lv_at hl 3 rfl) ?_
            refine r_if_ne (tgt := 71) hx hb dX2_set_60 (by decide) r_wh (fun c34 => ?_) (fun c34 => ?_)
            · refine lv_iload_n hx hb dX2_set_71 rfl (lv_at hl 3 rfl) ?_
              refine r_iconst hx hb dX2_set_72 ?_
              refine r_icmp_ne (tgt := 84) hx hb dX2_set_73 (by decide) r_wh (by decide) (fun c35 => ?_) (fun c35 => ?_)
              · refine lv_iload_n hx hb dX2_set_84 rfl (lv_at hl 3 rfl) ?_
                refine r_iconst hx hb dX2_set_85 ?_
                refine r_icmp_ne (tgt := 97) hx hb dX2_set_86 (by decide) r_wh (by decide) (fun c36 => ?_) (fun c36 => ?_)
                · refine lv_aload_n hx hb dX2_set_97 rfl (lv_at hl 2 rfl) ?_
                  refine lv_iload_n hx hb dX2_set_98 rfl (lv_at hl 4 rfl) ?_
                  refine mp_25 hC hM hS dX2_set_99 (fun H locs hM hS => ?_)
                  refine r_iconst hx hb dX2_set_102 ?_
                  exact m_zret hC hQ hr hlk hM hS (by decide) dX2_set_103 (Or.inl ⟨by omega, rfl, by split <;> (try split) <;> (try split) <;> first | rfl | omega, rfl⟩)
                · refine lv_aload_n hx hb dX2_set_89 rfl (lv_at hl 2 rfl) ?_
                  refine lv_iload_n hx hb dX2_set_90 rfl (lv_at hl 4 rfl) ?_
                  refine mp_24 hC hM hS dX2_set_91 (fun H locs hM hS => ?_)
                  refine lv_goto (tgt := 102) hx hb dX2_set_94 (by decide) ?_
                  refine r_iconst hx hb dX2_set_102 ?_
                  exact m_zret hC hQ hr hlk hM hS (by decide) dX2_set_103 (Or.inl ⟨by omega, rfl, by split <;> (try split) <;> (try split) <;> first | rfl | omega, rfl⟩)
              · refine lv_aload_n hx hb dX2_set_76 rfl (lv_at hl 2 rfl) ?_
                refine lv_iload_n hx hb dX2_set_77 rfl (lv_at hl 4 rfl) ?_
                refine mp_23 hC hM hS dX2_set_78 (fun H locs hM hS => ?_)
                refine lv_goto (tgt := 102) hx hb dX2_set_81 (by decide) ?_
                refine r_iconst hx hb dX2_set_102 ?_
                exact m_zret hC hQ hr hlk hM hS (by decide) dX2_set_103 (Or.inl ⟨by omega, rfl, by split <;> (try split) <;> (try split) <;> first | rfl | omega, rfl⟩)
            · refine lv_aload_n hx hb dX2_set_63 rfl (lv_at hl 2 rfl) ?_
              refine lv_iload_n hx hb dX2_set_64 rfl (lv_at hl 4 rfl) ?_
              refine mp_22 hC hM hS dX2_set_65 (fun H locs hM hS => ?_)
              refine lv_goto (tgt := 102) hx hb dX2_set_68 (by decide) ?_
              refine r_iconst hx hb dX2_set_102 ?_
              exact m_zret hC hQ hr hlk hM hS (by decide) dX2_set_103 (Or.inl ⟨by omega, rfl, by split <;> (try split) <;> (try split) <;> first | rfl | omega, rfl⟩)
          · refine r_iconst hx hb dX2_set_57 ?_
            exact m_zret hC hQ hr hlk hM hS (by decide) dX2_set_58 (Or.inr ⟨by omega, rfl, rfl, rfl⟩)
    · refine r_iconst hx hb dX2_set_9 ?_
      refine lv_goto (tgt := 14) hx hb dX2_set_10 (by decide) ?_
      refine lv_istore_n (lv' := [(3, .int (iI 1)), (0, .ref h), (1, .int (iI wh)), (2, .int (iI vl))]) hx hb dX2_set_14 rfl hl (by decide) rfl (fun ls hl => ?_)
      refine lv_iload_n hx hb dX2_set_15 rfl (lv_at hl 2 rfl) ?_
      refine r_if_ne (tgt := 24) hx hb dX2_set_16 (by decide) r_wh (fun c37 => ?_) (fun c37 => ?_)
      · refine lv_iload_n hx hb dX2_set_24 rfl (lv_at hl 2 rfl) ?_
        refine r_iconst hx hb dX2_set_25 ?_
        refine r_icmp_ne (tgt := 34) hx hb dX2_set_26 (by decide) r_wh (by decide) (fun c38 => ?_) (fun c38 => ?_)
        · refine r_bipush hx hb dX2_set_34 (by decide) ?_
          refine lv_istore (lv' := [(4, .int (iI 50)), (3, .int (iI 1)), (0, .ref h), (1, .int (iI wh)), (2, .int (iI vl))]) hx hb dX2_set_36 hl (by decide) rfl (fun ls hl => ?_)
          refine lv_iload_n hx hb dX2_set_38 rfl (lv_at hl 3 rfl) ?_
          refine r_iconst hx hb dX2_set_39 ?_
          refine r_iconst hx hb dX2_set_40 ?_
          refine s_calli (kX2_X2_in (rest := []) (as := [.int (iI wh), .int (iI 0), .int (iI 3)]) hx hb hml hown hts (met_in l wh 0 3 r_wh (by decide) (by decide)) ⟨rfl, rfl⟩ hR (by decide) rfl hl.1 rfl (Nat.le_of_ble_eq_true rfl) dX2_set_41) ?_
          refine r_ifeqB (tgt := 57) hx hb dX2_set_44 (by decide) (fun c39 => ?_) (fun c39 => ?_)
          · refine r_iconst hx hb dX2_set_57 ?_
            exact m_zret hC hQ hr hlk hM hS (by decide) dX2_set_58 (Or.inr ⟨by omega, rfl, rfl, rfl⟩)
          · refine lv_iload_n hx hb dX2_set_47 rfl (lv_at hl 4 rfl) ?_
            refine lv_iload_n hx hb dX2_set_48 rfl (lv_at hl 1 rfl) ?_
            refine lv_iload hx hb dX2_set_49 (lv_at hl 0 rfl) ?_
            refine s_calli (kX2_X2_in (rest := []) (as := [.int (iI vl), .int (iI 1), .int (iI 50)]) hx hb hml hown hts (met_in l vl 1 50 r_vl (by decide) (by decide)) ⟨rfl, rfl⟩ hR (by decide) rfl hl.1 rfl (Nat.le_of_ble_eq_true rfl) dX2_set_51) ?_
            refine r_ifneB (tgt := 59) hx hb dX2_set_54 (by decide) (fun c40 => ?_) (fun c40 => ?_)
            · refine lv_iload_n hx hb dX2_set_59 rfl (lv_at hl 3 rfl) ?_
              refine r_if_ne (tgt := 71) hx hb dX2_set_60 (by decide) r_wh (fun c41 => ?_) (fun c41 => ?_)
              · refine lv_iload_n hx hb dX2_set_71 rfl (lv_at hl 3 rfl) ?_
                refine r_iconst hx hb dX2_set_72 ?_
                refine r_icmp_ne (tgt := 84) hx hb dX2_set_73 (by decide) r_wh (by decide) (fun c42 => ?_) (fun c42 => ?_)
                · refine lv_iload_n hx hb dX2_set_84 rfl (lv_at hl 3 rfl) ?_
                  refine r_iconst hx hb dX2_set_85 ?_
                  refine r_icmp_ne (tgt := 97) hx hb dX2_set_86 (by decide) r_wh (by decide) (fun c43 => ?_) (fun c43 => ?_)
                  · refine lv_aload_n hx hb dX2_set_97 rfl (lv_at hl 2 rfl) ?_
                    refine lv_iload_n hx hb dX2_set_98 rfl (lv_at hl 4 rfl) ?_
                    refine mp_25 hC hM hS dX2_set_99 (fun H locs hM hS => ?_)
                    refine r_iconst hx hb dX2_set_102 ?_
                    exact m_zret hC hQ hr hlk hM hS (by decide) dX2_set_103 (Or.inl ⟨by omega, rfl, by split <;> (try split) <;> (try split) <;> first | rfl | omega, rfl⟩)
                  · refine lv_aload_n hx hb dX2_set_89 rfl (lv_at hl 2 rfl) ?_
                    refine lv_iload_n hx hb dX2_set_90 rfl (lv_at hl 4 rfl) ?_
                    refine mp_24 hC hM hS dX2_set_91 (fun H locs hM hS => ?_)
                    refine lv_goto (tgt := 102) hx hb dX2_set_94 (by decide) ?_
                    refine r_iconst hx hb dX2_set_102 ?_
                    exact m_zret hC hQ hr hlk hM hS (by decide) dX2_set_103 (Or.inl ⟨by omega, rfl, by split <;> (try split) <;> (try split) <;> first | rfl | omega, rfl⟩)
                · refine lv_aload_n hx hb dX2_set_76 rfl (lv_at hl 2 rfl) ?_
                  refine lv_iload_n hx hb dX2_set_77 rfl (lv_at hl 4 rfl) ?_
                  refine mp_23 hC hM hS dX2_set_78 (fun H locs hM hS => ?_)
                  refine lv_goto (tgt := 102) hx hb dX2_set_81 (by decide) ?_
                  refine r_iconst hx hb dX2_set_102 ?_
                  exact m_zret hC hQ hr hlk hM hS (by decide) dX2_set_103 (Or.inl ⟨by omega, rfl, by split <;> (try split) <;> (try split) <;> first | rfl | omega, rfl⟩)
              · refine lv_aload_n hx hb dX2_set_63 rfl (lv_at hl 2 rfl) ?_
                refine lv_iload_n hx hb dX2_set_64 rfl (lv_at hl 4 rfl) ?_
                refine mp_22 hC hM hS dX2_set_65 (fun H locs hM hS => ?_)
                refine lv_goto (tgt := 102) hx hb dX2_set_68 (by decide) ?_
                refine r_iconst hx hb dX2_set_102 ?_
                exact m_zret hC hQ hr hlk hM hS (by decide) dX2_set_103 (Or.inl ⟨by omega, rfl, by split <;> (try split) <;> (try split) <;> first | rfl | omega, rfl⟩)
            · refine r_iconst hx hb dX2_set_57 ?_
              exact m_zret hC hQ hr hlk hM hS (by decide) dX2_set_58 (Or.inr ⟨by omega, rfl, rfl, rfl⟩)
        · refine r_bipush hx hb dX2_set_29 (by decide) ?_
          refine lv_goto (tgt := 36) hx hb dX2_set_31 (by decide) ?_
          refine lv_istore (lv' := [(4, .int (iI 9)), (3, .int (iI 1)), (0, .ref h), (1, .int (iI wh)), (2, .int (iI vl))]) hx hb dX2_set_36 hl (by decide) rfl (fun ls hl => ?_)
          refine lv_iload_n hx hb dX2_set_38 rfl (lv_at hl 3 rfl) ?_
          refine r_iconst hx hb dX2_set_39 ?_
          refine r_iconst hx hb dX2_set_40 ?_
          refine s_calli (kX2_X2_in (rest := []) (as := [.int (iI wh), .int (iI 0), .int (iI 3)]) hx hb hml hown hts (met_in l wh 0 3 r_wh (by decide) (by decide)) ⟨rfl, rfl⟩ hR (by decide) rfl hl.1 rfl (Nat.le_of_ble_eq_true rfl) dX2_set_41) ?_
          refine r_ifeqB (tgt := 57) hx hb dX2_set_44 (by decide) (fun c44 => ?_) (fun c44 => ?_)
          · refine r_iconst hx hb dX2_set_57 ?_
            exact m_zret hC hQ hr hlk hM hS (by decide) dX2_set_58 (Or.inr ⟨by omega, rfl, rfl, rfl⟩)
          · refine lv_iload_n hx hb dX2_set_47 rfl (lv_at hl 4 rfl) ?_
            refine lv_iload_n hx hb dX2_set_48 rfl (lv_at hl 1 rfl) ?_
            refine lv_iload hx hb dX2_set_49 (lv_at hl 0 rfl) ?_
            refine s_calli (kX2_X2_in (rest := []) (as := [.int (iI vl), .int (iI 1), .int (iI 9)]) hx hb hml hown hts (met_in l vl 1 9 r_vl (by decide) (by decide)) ⟨rfl, rfl⟩ hR (by decide) rfl hl.1 rfl (Nat.le_of_ble_eq_true rfl) dX2_set_51) ?_
            refine r_ifneB (tgt := 59) hx hb dX2_set_54 (by decide) (fun c45 => ?_) (fun c45 => ?_)
            · refine lv_iload_n hx hb dX2_set_59 rfl (lv_at hl 3 rfl) ?_
              refine r_if_ne (tgt := 71) hx hb dX2_set_60 (by decide) r_wh (fun c46 => ?_) (fun c46 => ?_)
              · refine lv_iload_n hx hb dX2_set_71 rfl (lv_at hl 3 rfl) ?_
                refine r_iconst hx hb dX2_set_72 ?_
                refine r_icmp_ne (tgt := 84) hx hb dX2_set_73 (by decide) r_wh (by decide) (fun c47 => ?_) (fun c47 => ?_)
                · refine lv_iload_n hx hb dX2_set_84 rfl (lv_at hl 3 rfl) ?_
                  refine r_iconst hx hb dX2_set_85 ?_
                  refine r_icmp_ne (tgt := 97) hx hb dX2_set_86 (by decide) r_wh (by decide) (fun c48 => ?_) (fun c48 => ?_)
                  · refine lv_aload_n hx hb dX2_set_97 rfl (lv_at hl 2 rfl) ?_
                    refine lv_iload_n hx hb dX2_set_98 rfl (lv_at hl 4 rfl) ?_
                    refine mp_25 hC hM hS dX2_set_99 (fun H locs hM hS => ?_)
                    refine r_iconst hx hb dX2_set_102 ?_
                    exact m_zret hC hQ hr hlk hM hS (by decide) dX2_set_103 (Or.inl ⟨by omega, rfl, by split <;> (try split) <;> (try split) <;> first | rfl | omega, rfl⟩)
                  · refine lv_aload_n hx hb dX2_set_89 rfl (lv_at hl 2 rfl) ?_
                    refine lv_iload_n hx hb dX2_set_90 rfl (lv_at hl 4 rfl) ?_
                    refine mp_24 hC hM hS dX2_set_91 (fun H locs hM hS => ?_)
                    refine lv_goto (tgt := 102) hx hb dX2_set_94 (by decide) ?_
                    refine r_iconst hx hb dX2_set_102 ?_
                    exact m_zret hC hQ hr hlk hM hS (by decide) dX2_set_103 (Or.inl ⟨by omega, rfl, by split <;> (try split) <;> (try split) <;> first | rfl | omega, rfl⟩)
                · refine lv_aload_n hx hb dX2_set_76 rfl (lv_at hl 2 rfl) ?_
                  refine lv_iload_n hx hb dX2_set_77 rfl (lv_at hl 4 rfl) ?_
                  refine mp_23 hC hM hS dX2_set_78 (fun H locs hM hS => ?_)
                  refine lv_goto (tgt := 102) hx hb dX2_set_81 (by decide) ?_
                  refine r_iconst hx hb dX2_set_102 ?_
                  exact m_zret hC hQ hr hlk hM hS (by decide) dX2_set_103 (Or.inl ⟨by omega, rfl, by split <;> (try split) <;> (try split) <;> first | rfl | omega, rfl⟩)
              · refine lv_aload_n hx hb dX2_set_63 rfl (lv_at hl 2 rfl) ?_
                refine lv_iload_n hx hb dX2_set_64 rfl (lv_at hl 4 rfl) ?_
                refine mp_22 hC hM hS dX2_set_65 (fun H locs hM hS => ?_)
                refine lv_goto (tgt := 102) hx hb dX2_set_68 (by decide) ?_
                refine r_iconst hx hb dX2_set_102 ?_
                exact m_zret hC hQ hr hlk hM hS (by decide) dX2_set_103 (Or.inl ⟨by omega, rfl, by split <;> (try split) <;> (try split) <;> first | rfl | omega, rfl⟩)
            · refine r_iconst hx hb dX2_set_57 ?_
              exact m_zret hC hQ hr hlk hM hS (by decide) dX2_set_58 (Or.inr ⟨by omega, rfl, rfl, rfl⟩)
      · refine r_ldc hx hb 1000000 hown (hts _ q1341) (by decide) dX2_set_19 ?_
        refine lv_goto (tgt := 36) hx hb dX2_set_21 (by decide) ?_
        refine lv_istore (lv' := [(4, .int (iI 1000000)), (3, .int (iI 1)), (0, .ref h), (1, .int (iI wh)), (2, .int (iI vl))]) hx hb dX2_set_36 hl (by decide) rfl (fun ls hl => ?_)
        refine lv_iload_n hx hb dX2_set_38 rfl (lv_at hl 3 rfl) ?_
        refine r_iconst hx hb dX2_set_39 ?_
        refine r_iconst hx hb dX2_set_40 ?_
        refine s_calli (kX2_X2_in (rest := []) (as := [.int (iI wh), .int (iI 0), .int (iI 3)]) hx hb hml hown hts (met_in l wh 0 3 r_wh (by decide) (by decide)) ⟨rfl, rfl⟩ hR (by decide) rfl hl.1 rfl (Nat.le_of_ble_eq_true rfl) dX2_set_41) ?_
        refine r_ifeqB (tgt := 57) hx hb dX2_set_44 (by decide) (fun c49 => ?_) (fun c49 => ?_)
        · refine r_iconst hx hb dX2_set_57 ?_
          exact m_zret hC hQ hr hlk hM hS (by decide) dX2_set_58 (Or.inr ⟨by omega, rfl, rfl, rfl⟩)
        · refine lv_iload_n hx hb dX2_set_47 rfl (lv_at hl 4 rfl) ?_
          refine lv_iload_n hx hb dX2_set_48 rfl (lv_at hl 1 rfl) ?_
          refine lv_iload hx hb dX2_set_49 (lv_at hl 0 rfl) ?_
          refine s_calli (kX2_X2_in (rest := []) (as := [.int (iI vl), .int (iI 1), .int (iI 1000000)]) hx hb hml hown hts (met_in l vl 1 1000000 r_vl (by decide) (by decide)) ⟨rfl, rfl⟩ hR (by decide) rfl hl.1 rfl (Nat.le_of_ble_eq_true rfl) dX2_set_51) ?_
          refine r_ifneB (tgt := 59) hx hb dX2_set_54 (by decide) (fun c50 => ?_) (fun c50 => ?_)
          · refine lv_iload_n hx hb dX2_set_59 rfl (lv_at hl 3 rfl) ?_
            refine r_if_ne (tgt := 71) hx hb dX2_set_60 (by decide) r_wh (fun c51 => ?_) (fun c51 => ?_)
            · refine lv_iload_n hx hb dX2_set_71 rfl (lv_at hl 3 rfl) ?_
              refine r_iconst hx hb dX2_set_72 ?_
              refine r_icmp_ne (tgt := 84) hx hb dX2_set_73 (by decide) r_wh (by decide) (fun c52 => ?_) (fun c52 => ?_)
              · refine lv_iload_n hx hb dX2_set_84 rfl (lv_at hl 3 rfl) ?_
                refine r_iconst hx hb dX2_set_85 ?_
                refine r_icmp_ne (tgt := 97) hx hb dX2_set_86 (by decide) r_wh (by decide) (fun c53 => ?_) (fun c53 => ?_)
                · refine lv_aload_n hx hb dX2_set_97 rfl (lv_at hl 2 rfl) ?_
                  refine lv_iload_n hx hb dX2_set_98 rfl (lv_at hl 4 rfl) ?_
                  refine mp_25 hC hM hS dX2_set_99 (fun H locs hM hS => ?_)
                  refine r_iconst hx hb dX2_set_102 ?_
                  exact m_zret hC hQ hr hlk hM hS (by decide) dX2_set_103 (Or.inl ⟨by omega, rfl, by split <;> (try split) <;> (try split) <;> first | rfl | omega, rfl⟩)
                · refine lv_aload_n hx hb dX2_set_89 rfl (lv_at hl 2 rfl) ?_
                  refine lv_iload_n hx hb dX2_set_90 rfl (lv_at hl 4 rfl) ?_
                  refine mp_24 hC hM hS dX2_set_91 (fun H locs hM hS => ?_)
                  refine lv_goto (tgt := 102) hx hb dX2_set_94 (by decide) ?_
                  refine r_iconst hx hb dX2_set_102 ?_
                  exact m_zret hC hQ hr hlk hM hS (by decide) dX2_set_103 (Or.inl ⟨by omega, rfl, by split <;> (try split) <;> (try split) <;> first | rfl | omega, rfl⟩)
              · refine lv_aload_n hx hb dX2_set_76 rfl (lv_at hl 2 rfl) ?_
                refine lv_iload_n hx hb dX2_set_77 rfl (lv_at hl 4 rfl) ?_
                refine mp_23 hC hM hS dX2_set_78 (fun H locs hM hS => ?_)
                refine lv_goto (tgt := 102) hx hb dX2_set_81 (by decide) ?_
                refine r_iconst hx hb dX2_set_102 ?_
                exact m_zret hC hQ hr hlk hM hS (by decide) dX2_set_103 (Or.inl ⟨by omega, rfl, by split <;> (try split) <;> (try split) <;> first | rfl | omega, rfl⟩)
            · refine lv_aload_n hx hb dX2_set_63 rfl (lv_at hl 2 rfl) ?_
              refine lv_iload_n hx hb dX2_set_64 rfl (lv_at hl 4 rfl) ?_
              refine mp_22 hC hM hS dX2_set_65 (fun H locs hM hS => ?_)
              refine lv_goto (tgt := 102) hx hb dX2_set_68 (by decide) ?_
              refine r_iconst hx hb dX2_set_102 ?_
              exact m_zret hC hQ hr hlk hM hS (by decide) dX2_set_103 (Or.inl ⟨by omega, rfl, by split <;> (try split) <;> (try split) <;> first | rfl | omega, rfl⟩)
          · refine r_iconst hx hb dX2_set_57 ?_
            exact m_zret hC hQ hr hlk hM hS (by decide) dX2_set_58 (Or.inr ⟨by omega, rfl, rfl, rfl⟩)
theorem dX2_feed_0 : decode cX2_feed 0 = .ok (.aload_n 0, 1) := by decide +kernel
theorem dX2_feed_1 : decode cX2_feed 1 = .ok (.getfield 260, 3) := by decide +kernel
theorem dX2_feed_4 : decode cX2_feed 4 = .ok (.bipush 20, 2) := by decide +kernel
theorem dX2_feed_6 : decode cX2_feed 6 = .ok (.iadd, 1) := by decide +kernel
theorem dX2_feed_7 : decode cX2_feed 7 = .ok (.sipush 300, 3) := by decide +kernel
theorem dX2_feed_10 : decode cX2_feed 10 = .ok (.if_icmp .le 5, 3) := by decide +kernel
theorem dX2_feed_13 : decode cX2_feed 13 = .ok (.iconst (-1), 1) := by decide +kernel
theorem dX2_feed_14 : decode cX2_feed 14 = .ok (.ireturn, 1) := by decide +kernel
theorem dX2_feed_15 : decode cX2_feed 15 = .ok (.iconst 0, 1) := by decide +kernel
theorem dX2_feed_16 : decode cX2_feed 16 = .ok (.istore 6, 2) := by decide +kernel
theorem dX2_feed_18 : decode cX2_feed 18 = .ok (.iload 6, 2) := by decide +kernel
theorem dX2_feed_20 : decode cX2_feed 20 = .ok (.bipush 20, 2) := by decide +kernel
theorem dX2_feed_22 : decode cX2_feed 22 = .ok (.if_icmp .ge 90, 3) := by decide +kernel
theorem dX2_feed_25 : decode cX2_feed 25 = .ok (.iload 6, 2) := by decide +kernel
theorem dX2_feed_27 : decode cX2_feed 27 = .ok (.iconst 4, 1) := by decide +kernel
theorem dX2_feed_28 : decode cX2_feed 28 = .ok (.if_icmp .ge 7, 3) := by decide +kernel
theorem dX2_feed_31 : decode cX2_feed 31 = .ok (.iload_n 1, 1) := by decide +kernel
theorem dX2_feed_32 : decode cX2_feed 32 = .ok (.goto 39, 3) := by decide +kernel
theorem dX2_feed_35 : decode cX2_feed 35 = .ok (.iload 6, 2) := by decide +kernel
theorem dX2_feed_37 : decode cX2_feed 37 = .ok (.bipush 8, 2) := by decide +kernel
theorem dX2_feed_39 : decode cX2_feed 39 = .ok (.if_icmp .ge 7, 3) := by decide +kernel
theorem dX2_feed_42 : decode cX2_feed 42 = .ok (.iload_n 2, 1) := by decide +kernel
theorem dX2_feed_43 : decode cX2_feed 43 = .ok (.goto 28, 3) := by decide +kernel
theorem dX2_feed_46 : decode cX2_feed 46 = .ok (.iload 6, 2) := by decide +kernel
theorem dX2_feed_48 : decode cX2_feed 48 = .ok (.bipush 12, 2) := by decide +kernel
theorem dX2_feed_50 : decode cX2_feed 50 = .ok (.if_icmp .ge 7, 3) := by decide +kernel
theorem dX2_feed_53 : decode cX2_feed 53 = .ok (.iload_n 3, 1) := by decide +kernel
theorem dX2_feed_54 : decode cX2_feed 54 = .ok (.goto 17, 3) := by decide +kernel
theorem dX2_feed_57 : decode cX2_feed 57 = .ok (.iload 6, 2) := by decide +kernel
theorem dX2_feed_59 : decode cX2_feed 59 = .ok (.bipush 16, 2) := by decide +kernel
theorem dX2_feed_61 : decode cX2_feed 61 = .ok (.if_icmp .ge 8, 3) := by decide +kernel
theorem dX2_feed_64 : decode cX2_feed 64 = .ok (.iload 4, 2) := by decide +kernel
theorem dX2_feed_66 : decode cX2_feed 66 = .ok (.goto 5, 3) := by decide +kernel
theorem dX2_feed_69 : decode cX2_feed 69 = .ok (.iload 5, 2) := by decide +kernel
theorem dX2_feed_71 : decode cX2_feed 71 = .ok (.istore 7, 2) := by decide +kernel
theorem dX2_feed_73 : decode cX2_feed 73 = .ok (.aload_n 0, 1) := by decide +kernel
theorem dX2_feed_74 : decode cX2_feed 74 = .ok (.getfield 126, 3) := by decide +kernel
theorem dX2_feed_77 : decode cX2_feed 77 = .ok (.aload_n 0, 1) := by decide +kernel
theorem dX2_feed_78 : decode cX2_feed 78 = .ok (.getfield 260, 3) := by decide +kernel
theorem dX2_feed_81 : decode cX2_feed 81 = .ok (.iload 7, 2) := by decide +kernel
theorem dX2_feed_83 : decode cX2_feed 83 = .ok (.bipush 24, 2) := by decide +kernel
theorem dX2_feed_85 : decode cX2_feed 85 = .ok (.bipush 8, 2) := by decide +kernel
theorem dX2_feed_87 : decode cX2_feed 87 = .ok (.iload 6, 2) := by decide +kernel
theorem dX2_feed_89 : decode cX2_feed 89 = .ok (.iconst 4, 1) := by decide +kernel
theorem dX2_feed_90 : decode cX2_feed 90 = .ok (.irem, 1) := by decide +kernel
theorem dX2_feed_91 : decode cX2_feed 91 = .ok (.imul, 1) := by decide +kernel
theorem dX2_feed_92 : decode cX2_feed 92 = .ok (.isub, 1) := by decide +kernel
theorem dX2_feed_93 : decode cX2_feed 93 = .ok (.ishr, 1) := by decide +kernel
theorem dX2_feed_94 : decode cX2_feed 94 = .ok (.i2b, 1) := by decide +kernel
theorem dX2_feed_95 : decode cX2_feed 95 = .ok (.bastore, 1) := by decide +kernel
theorem dX2_feed_96 : decode cX2_feed 96 = .ok (.aload_n 0, 1) := by decide +kernel
theorem dX2_feed_97 : decode cX2_feed 97 = .ok (.dup, 1) := by decide +kernel
theorem dX2_feed_98 : decode cX2_feed 98 = .ok (.getfield 260, 3) := by decide +kernel
theorem dX2_feed_101 : decode cX2_feed 101 = .ok (.iconst 1, 1) := by decide +kernel
theorem dX2_feed_102 : decode cX2_feed 102 = .ok (.iadd, 1) := by decide +kernel
theorem dX2_feed_103 : decode cX2_feed 103 = .ok (.putfield 260, 3) := by decide +kernel
theorem dX2_feed_106 : decode cX2_feed 106 = .ok (.iinc 6 1, 3) := by decide +kernel
theorem dX2_feed_109 : decode cX2_feed 109 = .ok (.goto (-91), 3) := by decide +kernel
theorem dX2_feed_112 : decode cX2_feed 112 = .ok (.aload_n 0, 1) := by decide +kernel
theorem dX2_feed_113 : decode cX2_feed 113 = .ok (.getfield 260, 3) := by decide +kernel
theorem dX2_feed_116 : decode cX2_feed 116 = .ok (.ireturn, 1) := by decide +kernel
set_option maxHeartbeats 4000000 in
theorem met_feed (l : Launch) (D : va_G) (E : Nat → ClassId) (A : Nat → Prop) (h : Nat) (ad : Nat → Nat) (I : Nat → Int) (F : Nat → Int → Int) (a1 a2 a3 a4 a5 : Int) (r1 : R32 a1) (r2 : R32 a2) (r3 : R32 a3) (r4 : R32 a4) (r5 : R32 a5) (gl : gTxt I F) : MM l yX2_feed cX2_feed 8 (some .int) (mrm 0) D E A h ad [.int (iI a1), .int (iI a2), .int (iI a3), .int (iI a4), .int (iI a5)] I F (MQi D E A h ad (fun z I1 F1 => (I 48 ≤ 280 ∧ I 48 + 20 = z ∧ va_up I 48 (I 48 + 20) = I1 ∧ va_up F 47 (fedT (F 47) (I 48) (byteOf5 a1 a2 a3 a4 a5) 20) = F1) ∨ (280 < I 48 ∧ -1 = z ∧ I = I1 ∧ F = F1))) := by
  refine m_start (by decide) rfl (Nat.le_of_ble_eq_true rfl) ?_
  intro p e R s m args below meth c ls Q hR hQ hC hml hr hlk hM hS hl
  have hx := hC.1
  have hb := hC.2.1
  have hown := hC.2.2.1
  have hts := hC.2.2.2.1
  have hl : lv_has ls 8 [(0, .ref h), (1, .int (iI a1)), (2, .int (iI a2)), (3, .int (iI a3)), (4, .int (iI a4)), (5, .int (iI a5))] := hl
  obtain ⟨i48, a47⟩ := gl
  refine lv_aload_n hx hb dX2_feed_0 rfl (lv_at hl 0 rfl) ?_
  refine mg_48 (v := I 48) hC hM rfl dX2_feed_1 ?_
  refine r_bipush hx hb dX2_feed_4 (by decide) ?_
  refine r_iadd hx hb dX2_feed_6 ?_
  refine r_sipush hx hb dX2_feed_7 (by decide) ?_
  refine r_icmp_le (tgt := 15) hx hb dX2_feed_10 (by decide) (by omega) (by decide) (fun c1 => ?_) (fun c1 => ?_)
  · refine r_iconst hx hb dX2_feed_15 ?_
    refine lv_istore (lv' := [(6, .int (iI 0)), (0, .ref h), (1, .int (iI a1)), (2, .int (iI a2)), (3, .int (iI a3)), (4, .int (iI a4)), (5, .int (iI a5))]) hx hb dX2_feed_16 hl (by decide) rfl (fun ls hl => ?_)
    have loop18_2 : ∀ (n : Nat) (k : Int) (I1 : Nat → Int) (F1 : Nat → Int → Int), 20 - k < (n : Int) → 0 ≤ k → k ≤ 20 → I1 = va_up I 48 (I 48 + k) → F1 = va_up F 47 (fedT (F 47) (I 48) (byteOf5 a1 a2 a3 a4 a5) k) → ∀ (H : Heap) (locs : List Loc) (ls : Array Slot), MW D E A h ad I1 F1 H → va_S A s.heap H locs → lv_has ls 8 [(6, .int (iI k)), (0, .ref h), (1, .int (iI a1)), (2, .int (iI a2)), (3, .int (iI a3)), (4, .int (iI a4)), (5, .int (iI a5))] → W p l e R s m args below meth c H locs 0 0 Q (F0 m 18 ls []) := by
      intro n
      induction n with
      | zero => intro k I1 F1 hn4 hk0 hk1 eI eF; exfalso; omega
      | succ n ih3 =>
        intro k I1 F1 hn4 hk0 hk1 eI eF H locs ls hM hS hl
        refine lv_iload hx hb dX2_feed_18 (lv_at hl 0 rfl) ?_
        refine r_bipush hx hb dX2_feed_20 (by decide) ?_
        refine r_icmp_ge (tgt := 112) hx hb dX2_feed_22 (by decide) (by omega) (by decide) (fun c5 => ?_) (fun c5 => ?_)
        · have ek : k = 20 := by omega
          subst ek
          subst eI
          subst eF
          refine lv_aload_n hx hb dX2_feed_112 rfl (lv_at hl 1 rfl) ?_
          refine mg_48 (v := I 48 + 20) hC hM rfl dX2_feed_113 ?_
          exact m_iret hC hQ hr hlk hM hS dX2_feed_116 (Or.inl ⟨by omega, rfl, rfl, rfl⟩)
        · subst eI
          subst eF
          have jn6 : W p l e R s m args below meth c H locs 0 0 Q (F0 m 71 ls [.int (iI (wordOf5 a1 a2 a3 a4 a5 k))]) := by
            refine lv_istore (lv' := [(7, .int (iI (wordOf5 a1 a2 a3 a4 a5 k))), (6, .int (iI k)), (0, .ref h), (1, .int (iI a1)), (2, .int (iI a2)), (3, .int (iI a3)), (4, .int (iI a4)), (5, .int (iI a5))]) hx hb dX2_feed_71 hl (by decide) rfl (fun ls hl => ?_)
            refine lv_aload_n hx hb dX2_feed_73 rfl (lv_at hl 2 rfl) ?_
            refine mg_47 hC hM dX2_feed_74 ?_
            refine lv_aload_n hx hb dX2_feed_77 rfl (lv_at hl 2 rfl) ?_
            refine mg_48 (v := I 48 + k) hC hM rfl dX2_feed_78 ?_
            refine lv_iload hx hb dX2_feed_81 (lv_at hl 0 rfl) ?_
            refine r_bipush hx hb dX2_feed_83 (by decide) ?_
            refine r_bipush hx hb dX2_feed_85 (by decide) ?_
            refine lv_iload hx hb dX2_feed_87 (lv_at hl 1 rfl) ?_
            refine r_iconst hx hb dX2_feed_89 ?_
            refine r_irem hx hb dX2_feed_90 (by omega) (by decide) (by decide) ?_
            refine r_imul hx hb dX2_feed_91 ?_
            refine r_isub hx hb dX2_feed_92 ?_
            have ht4 : 0 ≤ k.tmod 4 ∧ k.tmod 4 < 4 := by rw [Int.tmod_eq_emod_of_nonneg hk0]; omega
            refine r_ishr hx hb dX2_feed_93 ?_
            refine r_i2b hx hb dX2_feed_94 ?_
            refine ms_47 (v := b8 (shrZ (wordOf5 a1 a2 a3 a4 a5 k) (24 - (8 * (k.tmod 4))))) hC hM hS (by omega) (b8_R _) dX2_feed_95 (fun H locs hM hS => ?_)
            refine lv_aload_n hx hb dX2_feed_96 rfl (lv_at hl 2 rfl) ?_
            refine lv_dup hx hb dX2_feed_97 rfl ?_
            refine mg_48 (v := I 48 + k) hC hM rfl dX2_feed_98 ?_
            refine r_iconst hx hb dX2_feed_101 ?_
            refine r_iadd hx hb dX2_feed_102 ?_
            refine mp_48 hC hM hS dX2_feed_103 (fun H locs hM hS => ?_)
            refine lv_iinc (v := iI (k + 1)) (lv' := [(6, .int (iI (k + 1))), (7, .int (iI (wordOf5 a1 a2 a3 a4 a5 k))), (0, .ref h), (1, .int (iI a1)), (2, .int (iI a2)), (3, .int (iI a3)), (4, .int (iI a4)), (5, .int (iI a5))]) hx hb dX2_feed_106 hl (k := 1) rfl (iI_add _ _) (by decide) rfl (fun ls hl => ?_)
            refine lv_goto (tgt := 18) hx hb dX2_feed_109 (by decide) ?_
            exact ih3 (k + 1) (va_up (va_up I 48 (I 48 + k)) 48 ((I 48 + k) + 1)) (upF (va_up F 47 (fedT (F 47) (I 48) (byteOf5 a1 a2 a3 a4 a5) k)) 47 (I 48 + k) (b8 (shrZ (wordOf5 a1 a2 a3 a4 a5 k) (24 - (8 * (k.tmod 4)))))) (by omega) (by omega) (by omega) (by rw [up_up, Int.add_assoc]) (by rw [upF_up]; exact congrArg (va_up F 47) (fedT_s (F 47) (I 48) _ hk0)) _ _ _ hM hS (lv_sub hl [0, 2, 3, 4, 5, 6, 7] rfl)
          refine lv_iload hx hb dX2_feed_25 (lv_at hl 0 rfl) ?_
          refine r_iconst hx hb dX2_feed_27 ?_
          refine r_icmp_ge (tgt := 35) hx hb dX2_feed_28 (by decide) (by omega) (by decide) (fun c7 => ?_) (fun c7 => ?_)
          · refine lv_iload hx hb dX2_feed_35 (lv_at hl 0 rfl) ?_
            refine r_bipush hx hb dX2_feed_37 (by decide) ?_
            refine r_icmp_ge (tgt := 46) hx hb dX2_feed_39 (by decide) (by omega) (by decide) (fun c8 => ?_) (fun c8 => ?_)
            · refine lv_iload hx hb dX2_feed_46 (lv_at hl 0 rfl) ?_
              refine r_bipush hx hb dX2_feed_48 (by decide) ?_
              refine r_icmp_ge (tgt := 57) hx hb dX2_feed_50 (by decide) (by omega) (by decide) (fun c9 => ?_) (fun c9 => ?_)
              · refine lv_iload hx hb dX2_feed_57 (lv_at hl 0 rfl) ?_
                refine r_bipush hx hb dX2_feed_59 (by decide) ?_
                refine r_icmp_ge (tgt := 69) hx hb dX2_feed_61 (by decide) (by omega) (by decide) (fun c10 => ?_) (fun c10 => ?_)
                · refine lv_iload hx hb dX2_feed_69 (lv_at hl 6 rfl) ?_
                  have jn6 := jn6
                  rw [show wordOf5 a1 a2 a3 a4 a5 k = a5 from by unfold wordOf5; rw [if_neg (by omega), if_neg (by omega), if_neg (by omega), if_neg (by omega)]] at jn6
                  exact jn6
                · refine lv_iload hx hb dX2_feed_64 (lv_at hl 5 rfl) ?_
                  refine lv_goto (tgt := 71) hx hb dX2_feed_66 (by decide) ?_
                  have jn6 := jn6
                  rw [show wordOf5 a1 a2 a3 a4 a5 k = a4 from by unfold wordOf5; rw [if_neg (by omega), if_neg (by omega), if_neg (by omega), if_pos (by omega)]] at jn6
                  exact jn6
              · refine lv_iload_n hx hb dX2_feed_53 rfl (lv_at hl 4 rfl) ?_
                refine lv_goto (tgt := 71) hx hb dX2_feed_54 (by decide) ?_
                have jn6 := jn6
                rw [show wordOf5 a1 a2 a3 a4 a5 k = a3 from by unfold wordOf5; rw [if_neg (by omega), if_neg (by omega), if_pos (by omega)]] at jn6
                exact jn6
            · refine lv_iload_n hx hb dX2_feed_42 rfl (lv_at hl 3 rfl) ?_
              refine lv_goto (tgt := 71) hx hb dX2_feed_43 (by decide) ?_
              have jn6 := jn6
              rw [show wordOf5 a1 a2 a3 a4 a5 k = a2 from by unfold wordOf5; rw [if_neg (by omega), if_pos (by omega)]] at jn6
              exact jn6
          · refine lv_iload_n hx hb dX2_feed_31 rfl (lv_at hl 2 rfl) ?_
            refine lv_goto (tgt := 71) hx hb dX2_feed_32 (by decide) ?_
            have jn6 := jn6
            rw [show wordOf5 a1 a2 a3 a4 a5 k = a1 from by unfold wordOf5; rw [if_pos (by omega)]] at jn6
            exact jn6
    exact loop18_2 ((20 - 0 : Int).toNat + 1) 0 I F (by omega) (by omega) (by omega) (by rw [Int.add_zero, up_self]) (by rw [fedT_0, up_self]) _ _ _ hM hS (lv_sub hl [0, 1, 2, 3, 4, 5, 6] rfl)
  · refine r_iconst hx hb dX2_feed_13 ?_
    exact m_iret hC hQ hr hlk hM hS dX2_feed_14 (Or.inr ⟨by omega, rfl, rfl, rfl⟩)
