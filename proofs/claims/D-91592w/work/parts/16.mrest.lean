/-! THE MODEL: the arm, the rests -/
set_option maxRecDepth 100000
theorem stays_v {lv ar : Int → Int} {kk zz : Int} (e : zz = if restI lv ar kk = -1 then -2147483648 else if (0 : Int) ≠ 0 then restI lv ar kk - 80 else if 0 < ar (restI lv ar kk - 80) then 0 else 1) : (zz = -2147483648 → staysS lv ar kk = -1) ∧ (zz ≠ -2147483648 → staysS lv ar kk = zz) := by
  unfold staysS
  by_cases h : restI lv ar kk = -1
  · rw [if_pos h] at e ⊢
    exact ⟨fun _ => rfl, fun q => absurd e q⟩
  · rw [if_neg h, if_neg (show ¬ ((0 : Int) ≠ 0) from fun q => q rfl)] at e
    rw [if_neg h]
    refine ⟨fun q => ?_, fun _ => e.symm⟩
    rw [q] at e
    split at e <;> cases e
theorem dX2_armAt_0 : decode cX2_armAt 0 = .ok (.aload_n 0, 1) := by decide +kernel
theorem dX2_armAt_1 : decode cX2_armAt 1 = .ok (.getfield 197, 3) := by decide +kernel
theorem dX2_armAt_4 : decode cX2_armAt 4 = .ok (.aload_n 0, 1) := by decide +kernel
theorem dX2_armAt_5 : decode cX2_armAt 5 = .ok (.invokevirtual 201, 3) := by decide +kernel
theorem dX2_armAt_8 : decode cX2_armAt 8 = .ok (.i2l, 1) := by decide +kernel
theorem dX2_armAt_9 : decode cX2_armAt 9 = .ok (.lmul, 1) := by decide +kernel
theorem dX2_armAt_10 : decode cX2_armAt 10 = .ok (.aload_n 0, 1) := by decide +kernel
theorem dX2_armAt_11 : decode cX2_armAt 11 = .ok (.getfield 194, 3) := by decide +kernel
theorem dX2_armAt_14 : decode cX2_armAt 14 = .ok (.i2l, 1) := by decide +kernel
theorem dX2_armAt_15 : decode cX2_armAt 15 = .ok (.invokestatic 210, 3) := by decide +kernel
theorem dX2_armAt_18 : decode cX2_armAt 18 = .ok (.lstore_n 3, 1) := by decide +kernel
theorem dX2_armAt_19 : decode cX2_armAt 19 = .ok (.iconst 0, 1) := by decide +kernel
theorem dX2_armAt_20 : decode cX2_armAt 20 = .ok (.istore 5, 2) := by decide +kernel
theorem dX2_armAt_22 : decode cX2_armAt 22 = .ok (.iload 5, 2) := by decide +kernel
theorem dX2_armAt_24 : decode cX2_armAt 24 = .ok (.aload_n 0, 1) := by decide +kernel
theorem dX2_armAt_25 : decode cX2_armAt 25 = .ok (.getfield 181, 3) := by decide +kernel
theorem dX2_armAt_28 : decode cX2_armAt 28 = .ok (.if_icmp .ge 61, 3) := by decide +kernel
theorem dX2_armAt_31 : decode cX2_armAt 31 = .ok (.lload_n 3, 1) := by decide +kernel
theorem dX2_armAt_32 : decode cX2_armAt 32 = .ok (.aload_n 0, 1) := by decide +kernel
theorem dX2_armAt_33 : decode cX2_armAt 33 = .ok (.getfield 31, 3) := by decide +kernel
theorem dX2_armAt_36 : decode cX2_armAt 36 = .ok (.iload 5, 2) := by decide +kernel
theorem dX2_armAt_38 : decode cX2_armAt 38 = .ok (.baload, 1) := by decide +kernel
theorem dX2_armAt_39 : decode cX2_armAt 39 = .ok (.ifCond .eq 7, 3) := by decide +kernel
theorem dX2_armAt_42 : decode cX2_armAt 42 = .ok (.lconst 0, 1) := by decide +kernel
theorem dX2_armAt_43 : decode cX2_armAt 43 = .ok (.goto 38, 3) := by decide +kernel
theorem dX2_armAt_46 : decode cX2_armAt 46 = .ok (.aload_n 0, 1) := by decide +kernel
theorem dX2_armAt_47 : decode cX2_armAt 47 = .ok (.getfield 19, 3) := by decide +kernel
theorem dX2_armAt_50 : decode cX2_armAt 50 = .ok (.iload 5, 2) := by decide +kernel
theorem dX2_armAt_52 : decode cX2_armAt 52 = .ok (.iaload, 1) := by decide +kernel
theorem dX2_armAt_53 : decode cX2_armAt 53 = .ok (.i2l, 1) := by decide +kernel
theorem dX2_armAt_54 : decode cX2_armAt 54 = .ok (.bipush 100, 2) := by decide +kernel
theorem dX2_armAt_56 : decode cX2_armAt 56 = .ok (.aload_n 0, 1) := by decide +kernel
theorem dX2_armAt_57 : decode cX2_armAt 57 = .ok (.getfield 72, 3) := by decide +kernel
theorem dX2_armAt_60 : decode cX2_armAt 60 = .ok (.bipush 12, 2) := by decide +kernel
theorem dX2_armAt_62 : decode cX2_armAt 62 = .ok (.iload_n 1, 1) := by decide +kernel
theorem dX2_armAt_63 : decode cX2_armAt 63 = .ok (.imul, 1) := by decide +kernel
theorem dX2_armAt_64 : decode cX2_armAt 64 = .ok (.iload 5, 2) := by decide +kernel
theorem dX2_armAt_66 : decode cX2_armAt 66 = .ok (.iadd, 1) := by decide +kernel
theorem dX2_armAt_67 : decode cX2_armAt 67 = .ok (.iaload, 1) := by decide +kernel
theorem dX2_armAt_68 : decode cX2_armAt 68 = .ok (.imul, 1) := by decide +kernel
theorem dX2_armAt_69 : decode cX2_armAt 69 = .ok (.iload_n 2, 1) := by decide +kernel
theorem dX2_armAt_70 : decode cX2_armAt 70 = .ok (.aload_n 0, 1) := by decide +kernel
theorem dX2_armAt_71 : decode cX2_armAt 71 = .ok (.getfield 25, 3) := by decide +kernel
theorem dX2_armAt_74 : decode cX2_armAt 74 = .ok (.iload 5, 2) := by decide +kernel
theorem dX2_armAt_76 : decode cX2_armAt 76 = .ok (.iaload, 1) := by decide +kernel
theorem dX2_armAt_77 : decode cX2_armAt 77 = .ok (.imul, 1) := by decide +kernel
theorem dX2_armAt_78 : decode cX2_armAt 78 = .ok (.iadd, 1) := by decide +kernel
theorem dX2_armAt_79 : decode cX2_armAt 79 = .ok (.i2l, 1) := by decide +kernel
theorem dX2_armAt_80 : decode cX2_armAt 80 = .ok (.lmul, 1) := by decide +kernel
theorem dX2_armAt_81 : decode cX2_armAt 81 = .ok (.lsub, 1) := by decide +kernel
theorem dX2_armAt_82 : decode cX2_armAt 82 = .ok (.lstore_n 3, 1) := by decide +kernel
theorem dX2_armAt_83 : decode cX2_armAt 83 = .ok (.iinc 5 1, 3) := by decide +kernel
theorem dX2_armAt_86 : decode cX2_armAt 86 = .ok (.goto (-64), 3) := by decide +kernel
theorem dX2_armAt_89 : decode cX2_armAt 89 = .ok (.iconst 0, 1) := by decide +kernel
theorem dX2_armAt_90 : decode cX2_armAt 90 = .ok (.istore 5, 2) := by decide +kernel
theorem dX2_armAt_92 : decode cX2_armAt 92 = .ok (.iload 5, 2) := by decide +kernel
theorem dX2_armAt_94 : decode cX2_armAt 94 = .ok (.aload_n 0, 1) := by decide +kernel
theorem dX2_armAt_95 : decode cX2_armAt 95 = .ok (.getfield 188, 3) := by decide +kernel
theorem dX2_armAt_98 : decode cX2_armAt 98 = .ok (.if_icmp .ge 82, 3) := by decide +kernel
theorem dX2_armAt_101 : decode cX2_armAt 101 = .ok (.aload_n 0, 1) := by decide +kernel
theorem dX2_armAt_102 : decode cX2_armAt 102 = .ok (.getfield 44, 3) := by decide +kernel
theorem dX2_armAt_105 : decode cX2_armAt 105 = .ok (.iload 5, 2) := by decide +kernel
theorem dX2_armAt_107 : decode cX2_armAt 107 = .ok (.iaload, 1) := by decide +kernel
theorem dX2_armAt_108 : decode cX2_armAt 108 = .ok (.ifCond .le 35, 3) := by decide +kernel
theorem dX2_armAt_111 : decode cX2_armAt 111 = .ok (.aload_n 0, 1) := by decide +kernel
theorem dX2_armAt_112 : decode cX2_armAt 112 = .ok (.getfield 44, 3) := by decide +kernel
theorem dX2_armAt_115 : decode cX2_armAt 115 = .ok (.iload 5, 2) := by decide +kernel
theorem dX2_armAt_117 : decode cX2_armAt 117 = .ok (.iaload, 1) := by decide +kernel
theorem dX2_armAt_118 : decode cX2_armAt 118 = .ok (.aload_n 0, 1) := by decide +kernel
theorem dX2_armAt_119 : decode cX2_armAt 119 = .ok (.getfield 41, 3) := by decide +kernel
theorem dX2_armAt_122 : decode cX2_armAt 122 = .ok (.iload 5, 2) := by decide +kernel
theorem dX2_armAt_124 : decode cX2_armAt 124 = .ok (.iaload, 1) := by decide +kernel
theorem dX2_armAt_125 : decode cX2_armAt 125 = .ok (.if_icmp .ge 18, 3) := by decide +kernel
theorem dX2_armAt_128 : decode cX2_armAt 128 = .ok (.iload_n 2, 1) := by decide +kernel
theorem dX2_armAt_129 : decode cX2_armAt 129 = .ok (.aload_n 0, 1) := by decide +kernel
theorem dX2_armAt_130 : decode cX2_armAt 130 = .ok (.getfield 35, 3) := by decide +kernel
theorem dX2_armAt_133 : decode cX2_armAt 133 = .ok (.iload 5, 2) := by decide +kernel
theorem dX2_armAt_135 : decode cX2_armAt 135 = .ok (.iaload, 1) := by decide +kernel
theorem dX2_armAt_136 : decode cX2_armAt 136 = .ok (.imul, 1) := by decide +kernel
theorem dX2_armAt_137 : decode cX2_armAt 137 = .ok (.bipush 100, 2) := by decide +kernel
theorem dX2_armAt_139 : decode cX2_armAt 139 = .ok (.idiv, 1) := by decide +kernel
theorem dX2_armAt_140 : decode cX2_armAt 140 = .ok (.goto 4, 3) := by decide +kernel
theorem dX2_armAt_143 : decode cX2_armAt 143 = .ok (.iconst 0, 1) := by decide +kernel
theorem dX2_armAt_144 : decode cX2_armAt 144 = .ok (.istore 6, 2) := by decide +kernel
theorem dX2_armAt_146 : decode cX2_armAt 146 = .ok (.lload_n 3, 1) := by decide +kernel
theorem dX2_armAt_147 : decode cX2_armAt 147 = .ok (.aload_n 0, 1) := by decide +kernel
theorem dX2_armAt_148 : decode cX2_armAt 148 = .ok (.getfield 44, 3) := by decide +kernel
theorem dX2_armAt_151 : decode cX2_armAt 151 = .ok (.iload 5, 2) := by decide +kernel
theorem dX2_armAt_153 : decode cX2_armAt 153 = .ok (.iaload, 1) := by decide +kernel
theorem dX2_armAt_154 : decode cX2_armAt 154 = .ok (.i2l, 1) := by decide +kernel
theorem dX2_armAt_155 : decode cX2_armAt 155 = .ok (.bipush 100, 2) := by decide +kernel
theorem dX2_armAt_157 : decode cX2_armAt 157 = .ok (.iload 6, 2) := by decide +kernel
theorem dX2_armAt_159 : decode cX2_armAt 159 = .ok (.imul, 1) := by decide +kernel
theorem dX2_armAt_160 : decode cX2_armAt 160 = .ok (.iload_n 2, 1) := by decide +kernel
theorem dX2_armAt_161 : decode cX2_armAt 161 = .ok (.aload_n 0, 1) := by decide +kernel
theorem dX2_armAt_162 : decode cX2_armAt 162 = .ok (.getfield 38, 3) := by decide +kernel
theorem dX2_armAt_165 : decode cX2_armAt 165 = .ok (.iload 5, 2) := by decide +kernel
theorem dX2_armAt_167 : decode cX2_armAt 167 = .ok (.iaload, 1) := by decide +kernel
theorem dX2_armAt_168 : decode cX2_armAt 168 = .ok (.imul, 1) := by decide +kernel
theorem dX2_armAt_169 : decode cX2_armAt 169 = .ok (.iadd, 1) := by decide +kernel
theorem dX2_armAt_170 : decode cX2_armAt 170 = .ok (.i2l, 1) := by decide +kernel
theorem dX2_armAt_171 : decode cX2_armAt 171 = .ok (.lmul, 1) := by decide +kernel
theorem dX2_armAt_172 : decode cX2_armAt 172 = .ok (.lsub, 1) := by decide +kernel
theorem dX2_armAt_173 : decode cX2_armAt 173 = .ok (.lstore_n 3, 1) := by decide +kernel
theorem dX2_armAt_174 : decode cX2_armAt 174 = .ok (.iinc 5 1, 3) := by decide +kernel
theorem dX2_armAt_177 : decode cX2_armAt 177 = .ok (.goto (-85), 3) := by decide +kernel
theorem dX2_armAt_180 : decode cX2_armAt 180 = .ok (.lload_n 3, 1) := by decide +kernel
theorem dX2_armAt_181 : decode cX2_armAt 181 = .ok (.lreturn, 1) := by decide +kernel
set_option maxHeartbeats 4000000 in
theorem met_armAt (l : Launch) (D : va_G) (E : Nat → ClassId) (A : Nat → Prop) (h : Nat) (ad : Nat → Nat) (I : Nat → Int) (F : Nat → Int → Int) (lot sl : Int) (pl : Int → Int) (e27 : ∀ w, 0 ≤ w → w < I 4 → F 27 (12 * lot + w) = pl w) (hlot : 0 ≤ lot ∧ lot ≤ 1) (hs : -80 ≤ sl ∧ sl ≤ 80) (gl0 : gLoad I F) (gp0 : Bd pl 12 (-19) 19) (hpp : 0 < I 66 ∧ I 66 ≤ 21600) (huu : -69552000 ≤ I 67 ∧ I 67 ≤ 69552000) : MM l yX2_armAt cX2_armAt 7 (some .long) (mrm 1) D E A h ad [.int (iI lot), .int (iI sl)] I F (MQl D E A h ad (fun z I1 F1 => armS (I 67) (heavyS (I 4) (F 9) (F 5) (I 10) (F 14)) (I 66) (downS (I 4) (F 9) (F 5) pl (F 7) (I 10) (F 14) (F 13) (F 11) (F 12) sl) = z ∧ I = I1 ∧ F = F1)) := by
  refine m_start (by decide) rfl (Nat.le_of_ble_eq_true rfl) ?_
  intro p e R s m args below meth c ls Q hR hQ hC hml hr hlk hM hS hl
  have hx := hC.1
  have hb := hC.2.1
  have hown := hC.2.2.1
  have hts := hC.2.2.2.1
  have hl : lv_has ls 7 [(0, .ref h), (1, .int (iI lot)), (2, .int (iI sl))] := hl
  obtain ⟨i4, a5, a6, a7, a8, a9, i10, a11, a12, a13, a14, a14h⟩ := id gl0
  have hhv := heavyS_bd (lost := F 9) i4 i10 a5 a14
  have hmm := mul_bd (A := 69552000) (B := 7200) (a := I 67) (b := heavyS (I 4) (F 9) (F 5) (I 10) (F 14)) huu (by omega)
  refine lv_aload_n hx hb dX2_armAt_0 rfl (lv_at hl 0 rfl) ?_
  refine mg_67 (v := I 67) hC hM rfl dX2_armAt_1 ?_
  refine lv_aload_n hx hb dX2_armAt_4 rfl (lv_at hl 0 rfl) ?_
  refine m_calli (kX2_heavy (rest := [.long (iL (I 67))]) (as := []) hC hml (met_heavy l D E A h ad I F gl0) ⟨rfl, rfl⟩ hR (by decide) hM rfl hl.1 rfl (Nat.le_of_ble_eq_true rfl) dX2_armAt_5) hS (fun z1 I2 F3 H locs hp4 hM hS => ?_)
  obtain ⟨rfl, rfl, rfl⟩ := hp4
  refine r_i2l hx hb dX2_armAt_8 (by omega) ?_
  refine r_lmul hx hb dX2_armAt_9 ?_
  refine lv_aload_n hx hb dX2_armAt_10 rfl (lv_at hl 0 rfl) ?_
  refine mg_66 (v := I 66) hC hM rfl dX2_armAt_11 ?_
  refine r_i2l hx hb dX2_armAt_14 (by omega) ?_
  refine s_calll (kX2_X2_floor (rest := []) (as := [.long (iL ((I 67) * (heavyS (I 4) (F 9) (F 5) (I 10) (F 14)))), .long (iL (I 66))]) hx hb hml hown hts (met_floor l ((I 67) * (heavyS (I 4) (F 9) (F 5) (I 10) (F 14))) (I 66) (by omega) (by omega)) ⟨rfl, rfl⟩ hR (by decide) rfl hl.1 rfl (Nat.le_of_ble_eq_true rfl) dX2_armAt_15) ?_
  refine lv_lstore_n (lv' := [(3, .long (iL (((I 67) * (heavyS (I 4) (F 9) (F 5) (I 10) (F 14))) / (I 66)))), (0, .ref h), (1, .int (iI lot)), (2, .int (iI sl))]) hx hb dX2_armAt_18 rfl hl (by decide) rfl (fun ls hl => ?_)
  refine r_iconst hx hb dX2_armAt_19 ?_
  refine lv_istore (lv' := [(5, .int (iI 0)), (3, .long (iL (((I 67) * (heavyS (I 4) (F 9) (F 5) (I 10) (F 14))) / (I 66)))), (0, .ref h), (1, .int (iI lot)), (2, .int (iI sl))]) hx hb dX2_armAt_20 hl (by decide) rfl (fun ls hl => ?_)
  have loop22_5 : ∀ (n : Nat) (k x : Int), I 4 - k < (n : Int) → x = (I 67 * (heavyS (I 4) (F 9) (F 5) (I 10) (F 14))) / I 66 - sm (fun w => if F 9 w = 0 then F 5 w * (100 * pl w + sl * F 7 w) else 0) k → 0 ≤ k → k ≤ I 4 → ∀ (H : Heap) (locs : List Loc) (ls : Array Slot), MW D E A h ad I F H → va_S A s.heap H locs → lv_has ls 7 [(5, .int (iI k)), (3, .long (iL x)), (0, .ref h), (1, .int (iI lot)), (2, .int (iI sl))] → W p l e R s m args below meth c H locs 0 0 Q (F0 m 22 ls []) := by
    intro n
    induction n with
    | zero => intro k x hn7 ex hk0 hk1; exfalso; omega
    | succ n ih6 =>
      intro k x hn7 ex hk0 hk1 H locs ls hM hS hl
      refine lv_iload hx hb dX2_armAt_22 (lv_at hl 0 rfl) ?_
      refine lv_aload_n hx hb dX2_armAt_24 rfl (lv_at hl 2 rfl) ?_
      refine mg_4 (v := I 4) hC hM rfl dX2_armAt_25 ?_
      refine r_icmp_ge (tgt := 89) hx hb dX2_armAt_28 (by decide) (by omega) (by omega) (fun c8 => ?_) (fun c8 => ?_)
      · have ek : k = I 4 := by omega
        refine r_iconst hx hb dX2_armAt_89 ?_
        refine lv_istore (lv' := [(5, .int (iI 0)), (3, .long (iL x)), (0, .ref h), (1, .int (iI lot)), (2, .int (iI sl))]) hx hb dX2_armAt_90 hl (by decide) rfl (fun ls hl => ?_)
        have loop92_9 : ∀ (n : Nat) (j y : Int), I 10 - j < (n : Int) → y = (I 67 * (heavyS (I 4) (F 9) (F 5) (I 10) (F 14))) / I 66 - sm (fun w => if F 9 w = 0 then F 5 w * (100 * pl w + sl * F 7 w) else 0) (I 4) - sm (fun t => F 14 t * (100 * tpS (F 14 t) (F 13 t) (F 11 t) sl + sl * F 12 t)) j → 0 ≤ j → j ≤ I 10 → ∀ (H : Heap) (locs : List Loc) (ls : Array Slot), MW D E A h ad I F H → va_S A s.heap H locs → lv_has ls 7 [(5, .int (iI j)), (3, .long (iL y)), (0, .ref h), (1, .int (iI lot)), (2, .int (iI sl))] → W p l e R s m args below meth c H locs 0 0 Q (F0 m 92 ls []) := by
          intro n
          induction n with
          | zero => intro j y hn11 ey hj0 hj1; exfalso; omega
          | succ n ih10 =>
            intro j y hn11 ey hj0 hj1 H locs ls hM hS hl
            refine lv_iload hx hb dX2_armAt_92 (lv_at hl 0 rfl) ?_
            refine lv_aload_n hx hb dX2_armAt_94 rfl (lv_at hl 2 rfl) ?_
            refine mg_10 (v := I 10) hC hM rfl dX2_armAt_95 ?_
            refine r_icmp_ge (tgt := 180) hx hb dX2_armAt_98 (by decide) (by omega) (by omega) (fun c12 => ?_) (fun c12 => ?_)
            · have ej : j = I 10 := by omega
              refine lv_lload_n hx hb dX2_armAt_180 rfl (lv_at hl 1 rfl) ?_
              exact m_lret hC hQ hr hlk hM hS dX2_armAt_181 (⟨by unfold armS downS; rw [ey, ej, Int.sub_sub], rfl, rfl⟩)
            · have b11 := a11 j (by omega) (by omega)
              have b12 := a12 j (by omega) (by omega)
              have b13 := a13 j (by omega) (by omega)
              have b14 := a14 j (by omega) (by omega)
              have h1 := mul_bd (A := 80) (B := 9) (a := sl) (b := F 11 j) (by omega) (by omega)
              have h2 := mul_bd (A := 80) (B := 40) (a := sl) (b := F 12 j) (by omega) (by omega)
              have h3 := tpS_bd (has := F 14 j) (hol := F 13 j) (sl := sl) hs b11
              refine lv_aload_n hx hb dX2_armAt_101 rfl (lv_at hl 2 rfl) ?_
              refine mg_14 hC hM dX2_armAt_102 ?_
              refine lv_iload hx hb dX2_armAt_105 (lv_at hl 0 rfl) ?_
              refine ml_14 (v := F 14 j) hC hM (by omega) rfl dX2_armAt_107 ?_
              have jn13 : W p l e R s m args below meth c H locs 0 0 Q (F0 m 144 ls [.int (iI (tpS (F 14 j) (F 13 j) (F 11 j) sl))]) := by
                refine lv_istore (lv' := [(6, .int (iI (tpS (F 14 j) (F 13 j) (F 11 j) sl))), (5, .int (iI j)), (3, .long (iL y)), (0, .ref h), (1, .int (iI lot)), (2, .int (iI sl))]) hx hb dX2_armAt_144 hl (by decide) rfl (fun ls hl => ?_)
                refine lv_lload_n hx hb dX2_armAt_146 rfl (lv_at hl 2 rfl) ?_
                refine lv_aload_n hx hb dX2_armAt_147 rfl (lv_at hl 3 rfl) ?_
                refine mg_14 hC hM dX2_armAt_148 ?_
                refine lv_iload hx hb dX2_armAt_151 (lv_at hl 1 rfl) ?_
                refine ml_14 (v := F 14 j) hC hM (by omega) rfl dX2_armAt_153 ?_
                refine r_i2l hx hb dX2_armAt_154 (by omega) ?_
                refine r_bipush hx hb dX2_armAt_155 (by decide) ?_
                refine lv_iload hx hb dX2_armAt_157 (lv_at hl 0 rfl) ?_
                refine r_imul hx hb dX2_armAt_159 ?_
                refine lv_iload_n hx hb dX2_armAt_160 rfl (lv_at hl 5 rfl) ?_
                refine lv_aload_n hx hb dX2_armAt_161 rfl (lv_at hl 3 rfl) ?_
                refine mg_12 hC hM dX2_armAt_162 ?_
                refine lv_iload hx hb dX2_armAt_165 (lv_at hl 1 rfl) ?_
                refine ml_12 (v := F 12 j) hC hM (by omega) rfl dX2_armAt_167 ?_
                refine r_imul hx hb dX2_armAt_168 ?_
                refine r_iadd hx hb dX2_armAt_169 ?_
                refine r_i2l hx hb dX2_armAt_170 (by omega) ?_
                refine r_lmul hx hb dX2_armAt_171 ?_
                refine r_lsub hx hb dX2_armAt_172 ?_
                refine lv_lstore_n (lv' := [(3, .long (iL (y - ((F 14 j) * ((100 * (tpS (F 14 j) (F 13 j) (F 11 j) sl)) + (sl * (F 12 j))))))), (6, .int (iI (tpS (F 14 j) (F 13 j) (F 11 j) sl))), (5, .int (iI j)), (0, .ref h), (1, .int (iI lot)), (2, .int (iI sl))]) hx hb dX2_armAt_173 rfl hl (by decide) rfl (fun ls hl => ?_)
                refine lv_iinc (v := iI (j + 1)) (lv' := [(5, .int (iI (j + 1))), (3, .long (iL (y - ((F 14 j) * ((100 * (tpS (F 14 j) (F 13 j) (F 11 j) sl)) + (sl * (F 12 j))))))), (6, .int (iI (tpS (F 14 j) (F 13 j) (F 11 j) sl))), (0, .ref h), (1, .int (iI lot)), (2, .int (iI sl))]) hx hb dX2_armAt_174 hl (k := 2) rfl (iI_add _ _) (by decide) rfl (fun ls hl => ?_)
                refine lv_goto (tgt := 92) hx hb dX2_armAt_177 (by decide) ?_
                exact ih10 (j + 1) (y - ((F 14 j) * ((100 * (tpS (F 14 j) (F 13 j) (F 11 j) sl)) + (sl * (F 12 j))))) (by omega) (by rw [ey, sm_s _ hj0, ← Int.sub_sub]) (by omega) (by omega) _ _ _ hM hS (lv_sub hl [0, 1, 3, 4, 5] rfl)
              refine r_if_le (tgt := 143) hx hb dX2_armAt_108 (by decide) (by omega) (fun c14 => ?_) (fun c14 => ?_)
              · refine r_iconst hx hb dX2_armAt_143 ?_
                rw [show tpS (F 14 j) (F 13 j) (F 11 j) sl = 0 from if_neg (by omega)] at jn13
                exact jn13
              · refine lv_aload_n hx hb dX2_armAt_111 rfl (lv_at hl 2 rfl) ?_
                refine mg_14 hC hM dX2_armAt_112 ?_
                refine lv_iload hx hb dX2_armAt_115 (lv_at hl 0 rfl) ?_
                refine ml_14 (v := F 14 j) hC hM (by omega) rfl dX2_armAt_117 ?_
                refine lv_aload_n hx hb dX2_armAt_118 rfl (lv_at hl 2 rfl) ?_
                refine mg_13 hC hM dX2_armAt_119 ?_
                refine lv_iload hx hb dX2_armAt_122 (lv_at hl 0 rfl) ?_
                refine ml_13 (v := F 13 j) hC hM (by omega) rfl dX2_armAt_124 ?_
                refine r_icmp_ge (tgt := 143) hx hb dX2_armAt_125 (by decide) (by omega) (by omega) (fun c15 => ?_) (fun c15 => ?_)
                · refine r_iconst hx hb dX2_armAt_143 ?_
                  rw [show tpS (F 14 j) (F 13 j) (F 11 j) sl = 0 from if_neg (by omega)] at jn13
                  exact jn13
                · refine lv_iload_n hx hb dX2_armAt_128 rfl (lv_at hl 4 rfl) ?_
                  refine lv_aload_n hx hb dX2_armAt_129 rfl (lv_at hl 2 rfl) ?_
                  refine mg_11 hC hM dX2_armAt_130 ?_
                  refine lv_iload hx hb dX2_armAt_133 (lv_at hl 0 rfl) ?_
                  refine ml_11 (v := F 11 j) hC hM (by omega) rfl dX2_armAt_135 ?_
                  refine r_imul hx hb dX2_armAt_136 ?_
                  refine r_bipush hx hb dX2_armAt_137 (by decide) ?_
                  refine r_idiv hx hb dX2_armAt_139 (by omega) (by decide) (by decide) ?_
                  refine lv_goto (tgt := 144) hx hb dX2_armAt_140 (by decide) ?_
                  rw [show tpS (F 14 j) (F 13 j) (F 11 j) sl = (sl * F 11 j).tdiv 100 from if_pos (by omega)] at jn13
                  exact jn13
        exact loop92_9 ((I 10 - 0 : Int).toNat + 1) 0 x (by omega) (by rw [ex, ek, sm_0, Int.sub_zero]) (by omega) (by omega) _ _ _ hM hS (lv_sub hl [0, 1, 2, 3, 4] rfl)
      · have b5 := a5 k (by omega) (by omega)
        have b7 := a7 k (by omega) (by omega)
        have b9 := a9 k (by omega) (by omega)
        have b27 := gp0 k (by omega) (by omega)
        have h1 := mul_bd (A := 80) (B := 40) (a := sl) (b := F 7 k) (by omega) (by omega)
        refine lv_lload_n hx hb dX2_armAt_31 rfl (lv_at hl 1 rfl) ?_
        refine lv_aload_n hx hb dX2_armAt_32 rfl (lv_at hl 2 rfl) ?_
        refine mg_9 hC hM dX2_armAt_33 ?_
        refine lv_iload hx hb dX2_armAt_36 (lv_at hl 0 rfl) ?_
        refine ml_9 (v := F 9 k) hC hM (by omega) rfl dX2_armAt_38 ?_
        have jn16 : W p l e R s m args below meth c H locs 0 0 Q (F0 m 81 ls [.long (iL (if F 9 k = 0 then F 5 k * (100 * pl k + sl * F 7 k) else 0)), .long (iL x)]) := by
          refine r_lsub hx hb dX2_armAt_81 ?_
          refine lv_lstore_n (lv' := [(3, .long (iL (x - (if F 9 k = 0 then F 5 k * (100 * pl k + sl * F 7 k) else 0)))), (5, .int (iI k)), (0, .ref h), (1, .int (iI lot)), (2, .int (iI sl))]) hx hb dX2_armAt_82 rfl hl (by decide) rfl (fun ls hl => ?_)
          refine lv_iinc (v := iI (k + 1)) (lv' := [(5, .int (iI (k + 1))), (3, .long (iL (x - (if F 9 k = 0 then F 5 k * (100 * pl k + sl * F 7 k) else 0)))), (0, .ref h), (1, .int (iI lot)), (2, .int (iI sl))]) hx hb dX2_armAt_83 hl (k := 1) rfl (iI_add _ _) (by decide) rfl (fun ls hl => ?_)
          refine lv_goto (tgt := 22) hx hb dX2_armAt_86 (by decide) ?_
          exact ih6 (k + 1) (x - (if F 9 k = 0 then F 5 k * (100 * pl k + sl * F 7 k) else 0)) (by omega) (by rw [ex, sm_s _ hk0, ← Int.sub_sub]) (by omega) (by omega) _ _ _ hM hS (lv_sub hl [0, 1, 2, 3, 4] rfl)
        refine r_if_eq (tgt := 46) hx hb dX2_armAt_39 (by decide) (by omega) (fun c17 => ?_) (fun c17 => ?_)
        · refine lv_aload_n hx hb dX2_armAt_46 rfl (lv_at hl 2 rfl) ?_
          refine mg_5 hC hM dX2_armAt_47 ?_
          refine lv_iload hx hb dX2_armAt_50 (lv_at hl 0 rfl) ?_
          refine ml_5 (v := F 5 k) hC hM (by omega) rfl dX2_armAt_52 ?_
          refine r_i2l hx hb dX2_armAt_53 (by omega) ?_
          refine r_bipush hx hb dX2_armAt_54 (by decide) ?_
          refine lv_aload_n hx hb dX2_armAt_56 rfl (lv_at hl 2 rfl) ?_
          refine mg_27 hC hM dX2_armAt_57 ?_
          refine r_bipush hx hb dX2_armAt_60 (by decide) ?_
          refine lv_iload_n hx hb dX2_armAt_62 rfl (lv_at hl 3 rfl) ?_
          refine r_imul hx hb dX2_armAt_63 ?_
          refine lv_iload hx hb dX2_armAt_64 (lv_at hl 0 rfl) ?_
          refine r_iadd hx hb dX2_armAt_66 ?_
          refine ml_27 (v := pl k) hC hM (by omega) (e27 k (by omega) (by omega)) dX2_armAt_67 ?_
          refine r_imul hx hb dX2_armAt_68 ?_
          refine lv_iload_n hx hb dX2_armAt_69 rfl (lv_at hl 4 rfl) ?_
          refine lv_aload_n hx hb dX2_armAt_70 rfl (lv_at hl 2 rfl) ?_
          refine mg_7 hC hM dX2_armAt_71 ?_
          refine lv_iload hx hb dX2_armAt_74 (lv_at hl 0 rfl) ?_
          refine ml_7 (v := F 7 k) hC hM (by omega) rfl dX2_armAt_76 ?_
          refine r_imul hx hb dX2_armAt_77 ?_
          refine r_iadd hx hb dX2_armAt_78 ?_
          refine r_i2l hx hb dX2_armAt_79 (by omega) ?_
          refine r_lmul hx hb dX2_armAt_80 ?_
          rw [if_pos (by omega)] at jn16
          exact jn16
        · refine r_lconst hx hb 0 dX2_armAt_42 (by decide) ?_
          refine lv_goto (tgt := 81) hx hb dX2_armAt_43 (by decide) ?_
          rw [if_neg (by omega)] at jn16
          exact jn16
  exact loop22_5 ((I 4 - 0 : Int).toNat + 1) 0 (((I 67) * (heavyS (I 4) (F 9) (F 5) (I 10) (F 14))) / (I 66)) (by omega) (by rw [sm_0, Int.sub_zero]) (by omega) (by omega) _ _ _ hM hS (lv_sub hl [0, 1, 2, 3, 4] rfl)
theorem dX2_at_0 : decode cX2_at 0 = .ok (.iload_n 1, 1) := by decide +kernel
theorem dX2_at_1 : decode cX2_at 1 = .ok (.bipush (-80), 2) := by decide +kernel
theorem dX2_at_3 : decode cX2_at 3 = .ok (.bipush 80, 2) := by decide +kernel
theorem dX2_at_5 : decode cX2_at 5 = .ok (.invokestatic 173, 3) := by decide +kernel
theorem dX2_at_8 : decode cX2_at 8 = .ok (.ifCond .eq 12, 3) := by decide +kernel
theorem dX2_at_11 : decode cX2_at 11 = .ok (.iload_n 2, 1) := by decide +kernel
theorem dX2_at_12 : decode cX2_at 12 = .ok (.iconst 0, 1) := by decide +kernel
theorem dX2_at_13 : decode cX2_at 13 = .ok (.iconst 2, 1) := by decide +kernel
theorem dX2_at_14 : decode cX2_at 14 = .ok (.invokestatic 173, 3) := by decide +kernel
theorem dX2_at_17 : decode cX2_at 17 = .ok (.ifCond .ne 6, 3) := by decide +kernel
theorem dX2_at_20 : decode cX2_at 20 = .ok (.ldc 205, 2) := by decide +kernel
theorem dX2_at_22 : decode cX2_at 22 = .ok (.ireturn, 1) := by decide +kernel
theorem dX2_at_23 : decode cX2_at 23 = .ok (.aload_n 0, 1) := by decide +kernel
theorem dX2_at_24 : decode cX2_at 24 = .ok (.iload_n 1, 1) := by decide +kernel
theorem dX2_at_25 : decode cX2_at 25 = .ok (.invokevirtual 214, 3) := by decide +kernel
theorem dX2_at_28 : decode cX2_at 28 = .ok (.istore_n 3, 1) := by decide +kernel
theorem dX2_at_29 : decode cX2_at 29 = .ok (.iload_n 3, 1) := by decide +kernel
theorem dX2_at_30 : decode cX2_at 30 = .ok (.ldc 205, 2) := by decide +kernel
theorem dX2_at_32 : decode cX2_at 32 = .ok (.if_icmp .ne 8, 3) := by decide +kernel
theorem dX2_at_35 : decode cX2_at 35 = .ok (.ldc 205, 2) := by decide +kernel
theorem dX2_at_37 : decode cX2_at 37 = .ok (.goto 30, 3) := by decide +kernel
theorem dX2_at_40 : decode cX2_at 40 = .ok (.iload_n 2, 1) := by decide +kernel
theorem dX2_at_41 : decode cX2_at 41 = .ok (.ifCond .ne 7, 3) := by decide +kernel
theorem dX2_at_44 : decode cX2_at 44 = .ok (.iload_n 3, 1) := by decide +kernel
theorem dX2_at_45 : decode cX2_at 45 = .ok (.goto 22, 3) := by decide +kernel
theorem dX2_at_48 : decode cX2_at 48 = .ok (.iload_n 2, 1) := by decide +kernel
theorem dX2_at_49 : decode cX2_at 49 = .ok (.iconst 1, 1) := by decide +kernel
theorem dX2_at_50 : decode cX2_at 50 = .ok (.if_icmp .ne 10, 3) := by decide +kernel
theorem dX2_at_53 : decode cX2_at 53 = .ok (.aload_n 0, 1) := by decide +kernel
theorem dX2_at_54 : decode cX2_at 54 = .ok (.getfield 194, 3) := by decide +kernel
theorem dX2_at_57 : decode cX2_at 57 = .ok (.goto 10, 3) := by decide +kernel
theorem dX2_at_60 : decode cX2_at 60 = .ok (.aload_n 0, 1) := by decide +kernel
theorem dX2_at_61 : decode cX2_at 61 = .ok (.iconst 0, 1) := by decide +kernel
theorem dX2_at_62 : decode cX2_at 62 = .ok (.iload_n 1, 1) := by decide +kernel
theorem dX2_at_63 : decode cX2_at 63 = .ok (.invokevirtual 218, 3) := by decide +kernel
theorem dX2_at_66 : decode cX2_at 66 = .ok (.l2i, 1) := by decide +kernel
theorem dX2_at_67 : decode cX2_at 67 = .ok (.ireturn, 1) := by decide +kernel
set_option maxHeartbeats 4000000 in
theorem met_at (l : Launch) (D : va_G) (E : Nat → ClassId) (A : Nat → Prop) (h : Nat) (ad : Nat → Nat) (I : Nat → Int) (F : Nat → Int → Int) (sl wh : Int) (r_s : R32 sl) (r_w : R32 wh) (gh0 : gHull I F) (gl0 : gLoad I F) (gp0 : Bd (F 27) 24 (-19) 19) : MM l yX2_at cX2_at 4 (some .int) (mrm 2) D E A h ad [.int (iI sl), .int (iI wh)] I F (MQi D E A h ad (fun z I1 F1 => atS (lvF (I 1) (F 2) (F 3) (heavyS (I 4) (F 9) (F 5) (I 10) (F 14))) (fun sl => pushS (I 1) (F 2) (F 3) sl ((lvF (I 1) (F 2) (F 3) (heavyS (I 4) (F 9) (F 5) (I 10) (F 14))) sl)) (arF (I 1) (F 2) (F 3) (heavyS (I 4) (F 9) (F 5) (I 10) (F 14)) (downS (I 4) (F 9) (F 5) (fun w => F 27 (12 * 0 + w)) (F 7) (I 10) (F 14) (F 13) (F 11) (F 12))) sl wh = z ∧ (∃ a b, va_up (va_up I 66 a) 67 b = I1) ∧ F = F1)) := by
  refine m_start (by decide) rfl (Nat.le_of_ble_eq_true rfl) ?_
  intro p e R s m args below meth c ls Q hR hQ hC hml hr hlk hM hS hl
  have hx := hC.1
  have hb := hC.2.1
  have hown := hC.2.2.1
  have hts := hC.2.2.2.1
  have hl : lv_has ls 4 [(0, .ref h), (1, .int (iI sl)), (2, .int (iI wh))] := hl
  obtain ⟨i1, a2, a3⟩ := id gh0
  obtain ⟨i4, a5, a6, a7, a8, a9, i10, a11, a12, a13, a14, a14h⟩ := id gl0
  have hhv := heavyS_bd (lost := F 9) i4 i10 a5 a14
  have hpb : ∀ sl y, 0 ≤ pushS (I 1) (F 2) (F 3) sl y ∧ pushS (I 1) (F 2) (F 3) sl y ≤ 21600 := fun sl y => pushS_bd sl y i1 a2 a3
  have hub : ∀ sl y, -80 ≤ sl ∧ sl ≤ 80 → -69552000 ≤ upS (I 1) (F 2) (F 3) sl y ∧ upS (I 1) (F 2) (F 3) sl y ≤ 69552000 := fun sl y q => upS_bd y q i1 a2 a3
  refine lv_iload_n hx hb dX2_at_0 rfl (lv_at hl 1 rfl) ?_
  refine r_bipush hx hb dX2_at_1 (by decide) ?_
  refine r_bipush hx hb dX2_at_3 (by decide) ?_
  refine s_calli (kX2_X2_in (rest := []) (as := [.int (iI sl), .int (iI (-80)), .int (iI 80)]) hx hb hml hown hts (met_in l sl (-80) 80 r_s (by decide) (by decide)) ⟨rfl, rfl⟩ hR (by decide) rfl hl.1 rfl (Nat.le_of_ble_eq_true rfl) dX2_at_5) ?_
  refine r_ifeqB (tgt := 20) hx hb dX2_at_8 (by decide) (fun c1 => ?_) (fun c1 => ?_)
  · refine r_ldc hx hb (-2147483648) hown (hts _ q1289) (by decide) dX2_at_20 ?_
    exact m_iret hC hQ hr hlk hM hS dX2_at_22 (⟨if_neg (by omega), ⟨I 66, I 67, up2s I⟩, rfl⟩)
  · refine lv_iload_n hx hb dX2_at_11 rfl (lv_at hl 2 rfl) ?_
    refine r_iconst hx hb dX2_at_12 ?_
    refine r_iconst hx hb dX2_at_13 ?_
    refine s_calli (kX2_X2_in (rest := []) (as := [.int (iI wh), .int (iI 0), .int (iI 2)]) hx hb hml hown hts (met_in l wh 0 2 r_w (by decide) (by decide)) ⟨rfl, rfl⟩ hR (by decide) rfl hl.1 rfl (Nat.le_of_ble_eq_true rfl) dX2_at_14) ?_
    refine r_ifneB (tgt := 23) hx hb dX2_at_17 (by decide) (fun c2 => ?_) (fun c2 => ?_)
    · refine lv_aload_n hx hb dX2_at_23 rfl (lv_at hl 0 rfl) ?_
      refine lv_iload_n hx hb dX2_at_24 rfl (lv_at hl 1 rfl) ?_
      refine m_calli (kX2_levelAt (rest := []) (as := [.int (iI sl)]) hC hml (met_levelAt l D E A h ad I F sl (by omega) gh0 gl0) ⟨rfl, rfl⟩ hR (by decide) hM rfl hl.1 rfl (Nat.le_of_ble_eq_true rfl) dX2_at_25) hS (fun lv6 I7 F8 H locs hp9 hM hS => ?_)
      obtain ⟨rfl, ⟨ga3, gb4, rfl, hab5⟩, rfl⟩ := hp9
      have hlo : lvF (I 1) (F 2) (F 3) (heavyS (I 4) (F 9) (F 5) (I 10) (F 14)) sl = -2147483648 ∨ (-2000 ≤ lvF (I 1) (F 2) (F 3) (heavyS (I 4) (F 9) (F 5) (I 10) (F 14)) sl ∧ lvF (I 1) (F 2) (F 3) (heavyS (I 4) (F 9) (F 5) (I 10) (F 14)) sl ≤ 4000) := levelS_or _ _
      refine lv_istore_n (lv' := [(3, .int (iI (lvF (I 1) (F 2) (F 3) (heavyS (I 4) (F 9) (F 5) (I 10) (F 14)) sl))), (0, .ref h), (1, .int (iI sl)), (2, .int (iI wh))]) hx hb dX2_at_28 rfl hl (by decide) rfl (fun ls hl => ?_)
      refine lv_iload_n hx hb dX2_at_29 rfl (lv_at hl 0 rfl) ?_
      refine r_ldc hx hb (-2147483648) hown (hts _ q1289) (by decide) dX2_at_30 ?_
      refine r_icmp_ne (tgt := 40) hx hb dX2_at_32 (by decide) (by omega) (by decide) (fun cv => ?_) (fun cv => ?_)
      · obtain ⟨ea, eb⟩ := hab5 cv
        subst ea
        subst eb
        have hp1 := hpb sl (lvF (I 1) (F 2) (F 3) (heavyS (I 4) (F 9) (F 5) (I 10) (F 14)) sl)
        have hu1 := hub sl (lvF (I 1) (F 2) (F 3) (heavyS (I 4) (F 9) (F 5) (I 10) (F 14)) sl) (by omega)
        have hin := levelS_in (hv := heavyS (I 4) (F 9) (F 5) (I 10) (F 14)) (f := pushS (I 1) (F 2) (F 3) sl) cv
        have hpp : 0 < pushS (I 1) (F 2) (F 3) sl (lvF (I 1) (F 2) (F 3) (heavyS (I 4) (F 9) (F 5) (I 10) (F 14)) sl) ∧ pushS (I 1) (F 2) (F 3) sl (lvF (I 1) (F 2) (F 3) (heavyS (I 4) (F 9) (F 5) (I 10) (F 14)) sl) ≤ 21600 := ⟨by have q1 := hin.2.1; have q2 := hin.2.2; unfold lvF; omega, hp1.2⟩
        refine lv_iload_n hx hb dX2_at_40 rfl (lv_at hl 3 rfl) ?_
        refine r_if_ne (tgt := 48) hx hb dX2_at_41 (by decide) r_w (fun c10 => ?_) (fun c10 => ?_)
        · refine lv_iload_n hx hb dX2_at_48 rfl (lv_at hl 3 rfl) ?_
          refine r_iconst hx hb dX2_at_49 ?_
          refine r_icmp_ne (tgt := 60) hx hb dX2_at_50 (by decide) r_w (by decide) (fun c11 => ?_) (fun c11 => ?_)
          · refine lv_aload_n hx hb dX2_at_60 rfl (lv_at hl 1 rfl) ?_
            refine r_iconst hx hb dX2_at_61 ?_
            refine lv_iload_n hx hb dX2_at_62 rfl (lv_at hl 2 rfl) ?_
            refine m_calll (kX2_armAt (rest := []) (as := [.int (iI 0), .int (iI sl)]) hC hml (met_armAt l D E A h ad (va_up (va_up I 66 (pushS (I 1) (F 2) (F 3) sl (lvF (I 1) (F 2) (F 3) (heavyS (I 4) (F 9) (F 5) (I 10) (F 14)) sl))) 67 (upS (I 1) (F 2) (F 3) sl (lvF (I 1) (F 2) (F 3) (heavyS (I 4) (F 9) (F 5) (I 10) (F 14)) sl))) F 0 sl (fun w => F 27 (12 * 0 + w)) (fun _ _ _ => rfl) (by omega) (by omega) gl0 (fun z h0 h1 => gp0 _ (by omega) (by omega)) hpp hu1) ⟨rfl, rfl⟩ hR (by decide) hM rfl hl.1 rfl (Nat.le_of_ble_eq_true rfl) dX2_at_63) hS (fun z12 I13 F14 H locs hp15 hM hS => ?_)
            obtain ⟨rfl, rfl, rfl⟩ := hp15
            refine W.eq (g2 := F0 m 66 ls [.long (iL (armS (upS (I 1) (F 2) (F 3) sl (lvF (I 1) (F 2) (F 3) (heavyS (I 4) (F 9) (F 5) (I 10) (F 14)) sl)) (heavyS (I 4) (F 9) (F 5) (I 10) (F 14)) (pushS (I 1) (F 2) (F 3) sl (lvF (I 1) (F 2) (F 3) (heavyS (I 4) (F 9) (F 5) (I 10) (F 14)) sl)) (downS (I 4) (F 9) (F 5) (fun w => F 27 (12 * 0 + w)) (F 7) (I 10) (F 14) (F 13) (F 11) (F 12) sl)))]) rfl ?_
            refine r_l2i hx hb dX2_at_66 ?_
            exact m_iret hC hQ hr hlk hM hS dX2_at_67 (⟨by unfold atS; rw [if_pos (by omega), if_neg cv]; split <;> (try split) <;> first | rfl | omega, ⟨_, _, rfl⟩, rfl⟩)
          · refine lv_aload_n hx hb dX2_at_53 rfl (lv_at hl 1 rfl) ?_
            refine mg_66 (v := pushS (I 1) (F 2) (F 3) sl (lvF (I 1) (F 2) (F 3) (heavyS (I 4) (F 9) (F 5) (I 10) (F 14)) sl)) hC hM rfl dX2_at_54 ?_
            refine lv_goto (tgt := 67) hx hb dX2_at_57 (by decide) ?_
            exact m_iret hC hQ hr hlk hM hS dX2_at_67 (⟨by unfold atS; rw [if_pos (by omega), if_neg cv]; split <;> (try split) <;> first | rfl | omega, ⟨_, _, rfl⟩, rfl⟩)
        · refine lv_iload_n hx hb dX2_at_44 rfl (lv_at hl 0 rfl) ?_
          refine lv_goto (tgt := 67) hx hb dX2_at_45 (by decide) ?_
          exact m_iret hC hQ hr hlk hM hS dX2_at_67 (⟨by unfold atS; rw [if_pos (by omega), if_neg cv]; split <;> (try split) <;> first | rfl | omega, ⟨_, _, rfl⟩, rfl⟩)
      · refine r_ldc hx hb (-2147483648) hown (hts _ q1289) (by decide) dX2_at_35 ?_
        refine lv_goto (tgt := 67) hx hb dX2_at_37 (by decide) ?_
        exact m_iret hC hQ hr hlk hM hS dX2_at_67 (⟨by unfold atS; rw [if_pos (by omega), if_pos cv], ⟨_, _, rfl⟩, rfl⟩)
    · refine r_ldc hx hb (-2147483648) hown (hts _ q1289) (by decide) dX2_at_20 ?_
      exact m_iret hC hQ hr hlk hM hS dX2_at_22 (⟨if_neg (by omega), ⟨I 66, I 67, up2s I⟩, rfl⟩)
theorem dX2_restOf_0 : decode cX2_restOf 0 = .ok (.bipush (-80), 2) := by decide +kernel
theorem dX2_restOf_2 : decode cX2_restOf 2 = .ok (.istore_n 3, 1) := by decide +kernel
theorem dX2_restOf_3 : decode cX2_restOf 3 = .ok (.iload_n 3, 1) := by decide +kernel
theorem dX2_restOf_4 : decode cX2_restOf 4 = .ok (.bipush 80, 2) := by decide +kernel
theorem dX2_restOf_6 : decode cX2_restOf 6 = .ok (.if_icmp .gt 64, 3) := by decide +kernel
theorem dX2_restOf_9 : decode cX2_restOf 9 = .ok (.aload_n 0, 1) := by decide +kernel
theorem dX2_restOf_10 : decode cX2_restOf 10 = .ok (.getfield 161, 3) := by decide +kernel
theorem dX2_restOf_13 : decode cX2_restOf 13 = .ok (.iload_n 3, 1) := by decide +kernel
theorem dX2_restOf_14 : decode cX2_restOf 14 = .ok (.bipush 80, 2) := by decide +kernel
theorem dX2_restOf_16 : decode cX2_restOf 16 = .ok (.iadd, 1) := by decide +kernel
theorem dX2_restOf_17 : decode cX2_restOf 17 = .ok (.aload_n 0, 1) := by decide +kernel
theorem dX2_restOf_18 : decode cX2_restOf 18 = .ok (.iload_n 3, 1) := by decide +kernel
theorem dX2_restOf_19 : decode cX2_restOf 19 = .ok (.invokevirtual 214, 3) := by decide +kernel
theorem dX2_restOf_22 : decode cX2_restOf 22 = .ok (.ldc 205, 2) := by decide +kernel
theorem dX2_restOf_24 : decode cX2_restOf 24 = .ok (.if_icmp .eq 7, 3) := by decide +kernel
theorem dX2_restOf_27 : decode cX2_restOf 27 = .ok (.iconst 1, 1) := by decide +kernel
theorem dX2_restOf_28 : decode cX2_restOf 28 = .ok (.goto 4, 3) := by decide +kernel
theorem dX2_restOf_31 : decode cX2_restOf 31 = .ok (.iconst 0, 1) := by decide +kernel
theorem dX2_restOf_32 : decode cX2_restOf 32 = .ok (.bastore, 1) := by decide +kernel
theorem dX2_restOf_33 : decode cX2_restOf 33 = .ok (.aload_n 0, 1) := by decide +kernel
theorem dX2_restOf_34 : decode cX2_restOf 34 = .ok (.getfield 157, 3) := by decide +kernel
theorem dX2_restOf_37 : decode cX2_restOf 37 = .ok (.iload_n 3, 1) := by decide +kernel
theorem dX2_restOf_38 : decode cX2_restOf 38 = .ok (.bipush 80, 2) := by decide +kernel
theorem dX2_restOf_40 : decode cX2_restOf 40 = .ok (.iadd, 1) := by decide +kernel
theorem dX2_restOf_41 : decode cX2_restOf 41 = .ok (.aload_n 0, 1) := by decide +kernel
theorem dX2_restOf_42 : decode cX2_restOf 42 = .ok (.getfield 161, 3) := by decide +kernel
theorem dX2_restOf_45 : decode cX2_restOf 45 = .ok (.iload_n 3, 1) := by decide +kernel
theorem dX2_restOf_46 : decode cX2_restOf 46 = .ok (.bipush 80, 2) := by decide +kernel
theorem dX2_restOf_48 : decode cX2_restOf 48 = .ok (.iadd, 1) := by decide +kernel
theorem dX2_restOf_49 : decode cX2_restOf 49 = .ok (.baload, 1) := by decide +kernel
theorem dX2_restOf_50 : decode cX2_restOf 50 = .ok (.ifCond .eq 12, 3) := by decide +kernel
theorem dX2_restOf_53 : decode cX2_restOf 53 = .ok (.aload_n 0, 1) := by decide +kernel
theorem dX2_restOf_54 : decode cX2_restOf 54 = .ok (.iconst 0, 1) := by decide +kernel
theorem dX2_restOf_55 : decode cX2_restOf 55 = .ok (.iload_n 3, 1) := by decide +kernel
theorem dX2_restOf_56 : decode cX2_restOf 56 = .ok (.invokevirtual 218, 3) := by decide +kernel
theorem dX2_restOf_59 : decode cX2_restOf 59 = .ok (.goto 4, 3) := by decide +kernel
theorem dX2_restOf_62 : decode cX2_restOf 62 = .ok (.lconst 0, 1) := by decide +kernel
theorem dX2_restOf_63 : decode cX2_restOf 63 = .ok (.lastore, 1) := by decide +kernel
theorem dX2_restOf_64 : decode cX2_restOf 64 = .ok (.iinc 3 1, 3) := by decide +kernel
theorem dX2_restOf_67 : decode cX2_restOf 67 = .ok (.goto (-64), 3) := by decide +kernel
theorem dX2_restOf_70 : decode cX2_restOf 70 = .ok (.iload_n 1, 1) := by decide +kernel
theorem dX2_restOf_71 : decode cX2_restOf 71 = .ok (.istore_n 3, 1) := by decide +kernel
theorem dX2_restOf_72 : decode cX2_restOf 72 = .ok (.iconst 0, 1) := by decide +kernel
theorem dX2_restOf_73 : decode cX2_restOf 73 = .ok (.istore 4, 2) := by decide +kernel
theorem dX2_restOf_75 : decode cX2_restOf 75 = .ok (.iload 4, 2) := by decide +kernel
theorem dX2_restOf_77 : decode cX2_restOf 77 = .ok (.sipush 160, 3) := by decide +kernel
theorem dX2_restOf_80 : decode cX2_restOf 80 = .ok (.if_icmp .ge 114, 3) := by decide +kernel
theorem dX2_restOf_83 : decode cX2_restOf 83 = .ok (.iload_n 1, 1) := by decide +kernel
theorem dX2_restOf_84 : decode cX2_restOf 84 = .ok (.ifCond .lt 110, 3) := by decide +kernel
theorem dX2_restOf_87 : decode cX2_restOf 87 = .ok (.aload_n 0, 1) := by decide +kernel
theorem dX2_restOf_88 : decode cX2_restOf 88 = .ok (.getfield 161, 3) := by decide +kernel
theorem dX2_restOf_91 : decode cX2_restOf 91 = .ok (.iload 4, 2) := by decide +kernel
theorem dX2_restOf_93 : decode cX2_restOf 93 = .ok (.baload, 1) := by decide +kernel
theorem dX2_restOf_94 : decode cX2_restOf 94 = .ok (.ifCond .eq 94, 3) := by decide +kernel
theorem dX2_restOf_97 : decode cX2_restOf 97 = .ok (.aload_n 0, 1) := by decide +kernel
theorem dX2_restOf_98 : decode cX2_restOf 98 = .ok (.getfield 161, 3) := by decide +kernel
theorem dX2_restOf_101 : decode cX2_restOf 101 = .ok (.iload 4, 2) := by decide +kernel
theorem dX2_restOf_103 : decode cX2_restOf 103 = .ok (.iconst 1, 1) := by decide +kernel
theorem dX2_restOf_104 : decode cX2_restOf 104 = .ok (.iadd, 1) := by decide +kernel
theorem dX2_restOf_105 : decode cX2_restOf 105 = .ok (.baload, 1) := by decide +kernel
theorem dX2_restOf_106 : decode cX2_restOf 106 = .ok (.ifCond .eq 82, 3) := by decide +kernel
theorem dX2_restOf_109 : decode cX2_restOf 109 = .ok (.aload_n 0, 1) := by decide +kernel
theorem dX2_restOf_110 : decode cX2_restOf 110 = .ok (.getfield 157, 3) := by decide +kernel
theorem dX2_restOf_113 : decode cX2_restOf 113 = .ok (.iload 4, 2) := by decide +kernel
theorem dX2_restOf_115 : decode cX2_restOf 115 = .ok (.laload, 1) := by decide +kernel
theorem dX2_restOf_116 : decode cX2_restOf 116 = .ok (.lconst 0, 1) := by decide +kernel
theorem dX2_restOf_117 : decode cX2_restOf 117 = .ok (.lcmp, 1) := by decide +kernel
theorem dX2_restOf_118 : decode cX2_restOf 118 = .ok (.ifCond .le 7, 3) := by decide +kernel
theorem dX2_restOf_121 : decode cX2_restOf 121 = .ok (.iconst 1, 1) := by decide +kernel
theorem dX2_restOf_122 : decode cX2_restOf 122 = .ok (.goto 4, 3) := by decide +kernel
theorem dX2_restOf_125 : decode cX2_restOf 125 = .ok (.iconst 0, 1) := by decide +kernel
theorem dX2_restOf_126 : decode cX2_restOf 126 = .ok (.aload_n 0, 1) := by decide +kernel
theorem dX2_restOf_127 : decode cX2_restOf 127 = .ok (.getfield 157, 3) := by decide +kernel
theorem dX2_restOf_130 : decode cX2_restOf 130 = .ok (.iload 4, 2) := by decide +kernel
theorem dX2_restOf_132 : decode cX2_restOf 132 = .ok (.iconst 1, 1) := by decide +kernel
theorem dX2_restOf_133 : decode cX2_restOf 133 = .ok (.iadd, 1) := by decide +kernel
theorem dX2_restOf_134 : decode cX2_restOf 134 = .ok (.laload, 1) := by decide +kernel
theorem dX2_restOf_135 : decode cX2_restOf 135 = .ok (.lconst 0, 1) := by decide +kernel
theorem dX2_restOf_136 : decode cX2_restOf 136 = .ok (.lcmp, 1) := by decide +kernel
theorem dX2_restOf_137 : decode cX2_restOf 137 = .ok (.ifCond .le 7, 3) := by decide +kernel
theorem dX2_restOf_140 : decode cX2_restOf 140 = .ok (.iconst 1, 1) := by decide +kernel
theorem dX2_restOf_141 : decode cX2_restOf 141 = .ok (.goto 4, 3) := by decide +kernel
theorem dX2_restOf_144 : decode cX2_restOf 144 = .ok (.iconst 0, 1) := by decide +kernel
theorem dX2_restOf_145 : decode cX2_restOf 145 = .ok (.if_icmp .ne 6, 3) := by decide +kernel
theorem dX2_restOf_148 : decode cX2_restOf 148 = .ok (.goto 40, 3) := by decide +kernel
theorem dX2_restOf_151 : decode cX2_restOf 151 = .ok (.iload_n 3, 1) := by decide +kernel
theorem dX2_restOf_152 : decode cX2_restOf 152 = .ok (.ifCond .ne 33, 3) := by decide +kernel
theorem dX2_restOf_155 : decode cX2_restOf 155 = .ok (.iload_n 2, 1) := by decide +kernel
theorem dX2_restOf_156 : decode cX2_restOf 156 = .ok (.ifCond .eq 11, 3) := by decide +kernel
theorem dX2_restOf_159 : decode cX2_restOf 159 = .ok (.iload 4, 2) := by decide +kernel
theorem dX2_restOf_161 : decode cX2_restOf 161 = .ok (.bipush 80, 2) := by decide +kernel
theorem dX2_restOf_163 : decode cX2_restOf 163 = .ok (.isub, 1) := by decide +kernel
theorem dX2_restOf_164 : decode cX2_restOf 164 = .ok (.goto 20, 3) := by decide +kernel
theorem dX2_restOf_167 : decode cX2_restOf 167 = .ok (.aload_n 0, 1) := by decide +kernel
theorem dX2_restOf_168 : decode cX2_restOf 168 = .ok (.getfield 157, 3) := by decide +kernel
theorem dX2_restOf_171 : decode cX2_restOf 171 = .ok (.iload 4, 2) := by decide +kernel
theorem dX2_restOf_173 : decode cX2_restOf 173 = .ok (.laload, 1) := by decide +kernel
theorem dX2_restOf_174 : decode cX2_restOf 174 = .ok (.lconst 0, 1) := by decide +kernel
theorem dX2_restOf_175 : decode cX2_restOf 175 = .ok (.lcmp, 1) := by decide +kernel
theorem dX2_restOf_176 : decode cX2_restOf 176 = .ok (.ifCond .le 7, 3) := by decide +kernel
theorem dX2_restOf_179 : decode cX2_restOf 179 = .ok (.iconst 0, 1) := by decide +kernel
theorem dX2_restOf_180 : decode cX2_restOf 180 = .ok (.goto 4, 3) := by decide +kernel
theorem dX2_restOf_183 : decode cX2_restOf 183 = .ok (.iconst 1, 1) := by decide +kernel
theorem dX2_restOf_184 : decode cX2_restOf 184 = .ok (.ireturn, 1) := by decide +kernel
theorem dX2_restOf_185 : decode cX2_restOf 185 = .ok (.iinc 3 (-1), 3) := by decide +kernel
theorem dX2_restOf_188 : decode cX2_restOf 188 = .ok (.iinc 4 1, 3) := by decide +kernel
theorem dX2_restOf_191 : decode cX2_restOf 191 = .ok (.goto (-116), 3) := by decide +kernel
theorem dX2_restOf_194 : decode cX2_restOf 194 = .ok (.ldc 205, 2) := by decide +kernel
theorem dX2_restOf_196 : decode cX2_restOf 196 = .ok (.ireturn, 1) := by decide +kernel
set_option maxHeartbeats 4000000 in
theorem met_restOf (l : Launch) (D : va_G) (E : Nat → ClassId) (A : Nat → Prop) (h : Nat) (ad : Nat → Nat) (I : Nat → Int) (F : Nat → Int → Int) (kk slp : Int) (r_k : R32 kk) (r_s : R32 slp) (gh0 : gHull I F) (gl0 : gLoad I F) (gp0 : Bd (F 27) 24 (-19) 19) : MM l yX2_restOf cX2_restOf 5 (some .int) (mrm 2) D E A h ad [.int (iI kk), .int (iI slp)] I F (MQi D E A h ad (fun z I1 F1 => (if restI (lvF (I 1) (F 2) (F 3) (heavyS (I 4) (F 9) (F 5) (I 10) (F 14))) (arF (I 1) (F 2) (F 3) (heavyS (I 4) (F 9) (F 5) (I 10) (F 14)) (downS (I 4) (F 9) (F 5) (fun w => F 27 (12 * 0 + w)) (F 7) (I 10) (F 14) (F 13) (F 11) (F 12))) kk = -1 then -2147483648 else if slp ≠ 0 then restI (lvF (I 1) (F 2) (F 3) (heavyS (I 4) (F 9) (F 5) (I 10) (F 14))) (arF (I 1) (F 2) (F 3) (heavyS (I 4) (F 9) (F 5) (I 10) (F 14)) (downS (I 4) (F 9) (F 5) (fun w => F 27 (12 * 0 + w)) (F 7) (I 10) (F 14) (F 13) (F 11) (F 12))) kk - 80 else if 0 < (arF (I 1) (F 2) (F 3) (heavyS (I 4) (F 9) (F 5) (I 10) (F 14)) (downS (I 4) (F 9) (F 5) (fun w => F 27 (12 * 0 + w)) (F 7) (I 10) (F 14) (F 13) (F 11) (F 12))) (restI (lvF (I 1) (F 2) (F 3) (heavyS (I 4) (F 9) (F 5) (I 10) (F 14))) (arF (I 1) (F 2) (F 3) (heavyS (I 4) (F 9) (F 5) (I 10) (F 14)) (downS (I 4) (F 9) (F 5) (fun w => F 27 (12 * 0 + w)) (F 7) (I 10) (F 14) (F 13) (F 11) (F 12))) kk - 80) then 0 else 1) = z ∧ (∃ a b, va_up (va_up I 66 a) 67 b = I1) ∧ ∃ g g1, va_up (va_up F 68 g) 69 g1 = F1)) := by
  refine m_start (by decide) rfl (Nat.le_of_ble_eq_true rfl) ?_
  intro p e R s m args below meth c ls Q hR hQ hC hml hr hlk hM hS hl
  have hx := hC.1
  have hb := hC.2.1
  have hown := hC.2.2.1
  have hts := hC.2.2.2.1
  have hl : lv_has ls 5 [(0, .ref h), (1, .int (iI kk)), (2, .int (iI slp))] := hl
  obtain ⟨i1, a2, a3⟩ := id gh0
  obtain ⟨i4, a5, a6, a7, a8, a9, i10, a11, a12, a13, a14, a14h⟩ := id gl0
  have hhv := heavyS_bd (lost := F 9) i4 i10 a5 a14
  have hpb : ∀ sl y, 0 ≤ pushS (I 1) (F 2) (F 3) sl y ∧ pushS (I 1) (F 2) (F 3) sl y ≤ 21600 := fun sl y => pushS_bd sl y i1 a2 a3
  have hub : ∀ sl y, -80 ≤ sl ∧ sl ≤ 80 → -69552000 ≤ upS (I 1) (F 2) (F 3) sl y ∧ upS (I 1) (F 2) (F 3) sl y ≤ 69552000 := fun sl y q => upS_bd y q i1 a2 a3
  refine r_bipush hx hb dX2_restOf_0 (by decide) ?_
  refine lv_istore_n (lv' := [(3, .int (iI (-80))), (0, .ref h), (1, .int (iI kk)), (2, .int (iI slp))]) hx hb dX2_restOf_2 rfl hl (by decide) rfl (fun ls hl => ?_)
  have loop3_1 : ∀ (n : Nat) (k : Int) (I1 : Nat → Int) (F1 : Nat → Int → Int), 81 - k < (n : Int) → -80 ≤ k → k ≤ 81 → (∃ a b, I1 = va_up (va_up I 66 a) 67 b) → (∃ g g1, F1 = va_up (va_up F 68 g) 69 g1 ∧ ∀ i, 0 ≤ i → i < k + 80 → (g1 i = if (lvF (I 1) (F 2) (F 3) (heavyS (I 4) (F 9) (F 5) (I 10) (F 14))) (i - 80) = -2147483648 then 0 else 1) ∧ ((lvF (I 1) (F 2) (F 3) (heavyS (I 4) (F 9) (F 5) (I 10) (F 14))) (i - 80) ≠ -2147483648 → g i = (arF (I 1) (F 2) (F 3) (heavyS (I 4) (F 9) (F 5) (I 10) (F 14)) (downS (I 4) (F 9) (F 5) (fun w => F 27 (12 * 0 + w)) (F 7) (I 10) (F 14) (F 13) (F 11) (F 12))) (i - 80))) → ∀ (H : Heap) (locs : List Loc) (ls : Array Slot), MW D E A h ad I1 F1 H → va_S A s.heap H locs → lv_has ls 5 [(3, .int (iI k)), (0, .ref h), (1, .int (iI kk)), (2, .int (iI slp))] → W p l e R s m args below meth c H locs 0 0 Q (F0 m 3 ls []) := by
    intro n
    induction n with
    | zero => intro k I1 F1 hn3 hk0 hk1 eI eF; exfalso; omega
    | succ n ih2 =>
      intro k I1 F1 hn3 hk0 hk1 eI eF H locs ls hM hS hl
      obtain ⟨a, b, rfl⟩ := eI
      obtain ⟨g, g1, rfl, hg⟩ := eF
      refine lv_iload_n hx hb dX2_restOf_3 rfl (lv_at hl 0 rfl) ?_
      refine r_bipush hx hb dX2_restOf_4 (by decide) ?_
      refine r_icmp_gt (tgt := 70) hx hb dX2_restOf_6 (by decide) (by omega) (by decide) (fun c4 => ?_) (fun c4 => ?_)
      · have hg : ∀ i, 0 ≤ i → i < 161 → (g1 i = if (lvF (I 1) (F 2) (F 3) (heavyS (I 4) (F 9) (F 5) (I 10) (F 14))) (i - 80) = -2147483648 then 0 else 1) ∧ ((lvF (I 1) (F 2) (F 3) (heavyS (I 4) (F 9) (F 5) (I 10) (F 14))) (i - 80) ≠ -2147483648 → g i = (arF (I 1) (F 2) (F 3) (heavyS (I 4) (F 9) (F 5) (I 10) (F 14)) (downS (I 4) (F 9) (F 5) (fun w => F 27 (12 * 0 + w)) (F 7) (I 10) (F 14) (F 13) (F 11) (F 12))) (i - 80)) := fun i h0 h1 => hg i h0 (by omega)
        refine lv_iload_n hx hb dX2_restOf_70 rfl (lv_at hl 2 rfl) ?_
        refine lv_istore_n (lv' := [(3, .int (iI kk)), (0, .ref h), (1, .int (iI kk)), (2, .int (iI slp))]) hx hb dX2_restOf_71 rfl hl (by decide) rfl (fun ls hl => ?_)
        refine r_iconst hx hb dX2_restOf_72 ?_
        refine lv_istore (lv' := [(4, .int (iI 0)), (3, .int (iI kk)), (0, .ref h), (1, .int (iI kk)), (2, .int (iI slp))]) hx hb dX2_restOf_73 hl (by decide) rfl (fun ls hl => ?_)
        have loop75_5 : ∀ (n : Nat) (left i : Int), 160 - i < (n : Int) → 0 ≤ i → i ≤ 160 → (0 ≤ kk → rstF (chgS (lvF (I 1) (F 2) (F 3) (heavyS (I 4) (F 9) (F 5) (I 10) (F 14))) (arF (I 1) (F 2) (F 3) (heavyS (I 4) (F 9) (F 5) (I 10) (F 14)) (downS (I 4) (F 9) (F 5) (fun w => F 27 (12 * 0 + w)) (F 7) (I 10) (F 14) (F 13) (F 11) (F 12)))) (160 - i).toNat i left = restI (lvF (I 1) (F 2) (F 3) (heavyS (I 4) (F 9) (F 5) (I 10) (F 14))) (arF (I 1) (F 2) (F 3) (heavyS (I 4) (F 9) (F 5) (I 10) (F 14)) (downS (I 4) (F 9) (F 5) (fun w => F 27 (12 * 0 + w)) (F 7) (I 10) (F 14) (F 13) (F 11) (F 12))) kk) → (kk < 0 → i = 0) → left ≤ kk → kk - i ≤ left → ∀ (H : Heap) (locs : List Loc) (ls : Array Slot), MW D E A h ad (va_up (va_up I 66 a) 67 b) (va_up (va_up F 68 g) 69 g1) H → va_S A s.heap H locs → lv_has ls 5 [(4, .int (iI i)), (3, .int (iI left)), (0, .ref h), (1, .int (iI kk)), (2, .int (iI slp))] → W p l e R s m args below meth c H locs 0 0 Q (F0 m 75 ls []) := by
          intro n
          induction n with
          | zero => intro left i hn7 hi0 hi1 er hneg hl0 hl1; exfalso; omega
          | succ n ih6 =>
            intro left i hn7 hi0 hi1 er hneg hl0 hl1 H locs ls hM hS hl
            refine lv_iload hx hb dX2_restOf_75 (lv_at hl 0 rfl) ?_
            refine r_sipush hx hb dX2_restOf_77 (by decide) ?_
            refine r_icmp_ge (tgt := 194) hx hb dX2_restOf_80 (by decide) (by omega) (by decide) (fun c8 => ?_) (fun c8 => ?_)
            · refine r_ldc hx hb (-2147483648) hown (hts _ q1289) (by decide) dX2_restOf_194 ?_
              exact m_iret hC hQ hr hlk hM hS dX2_restOf_196 (⟨by rw [if_pos (by rw [← er (by omega), show (160 - i).toNat = 0 by omega]; rfl)], ⟨_, _, rfl⟩, ⟨_, _, rfl⟩⟩)
            · refine lv_iload_n hx hb dX2_restOf_83 rfl (lv_at hl 3 rfl) ?_
              refine r_if_lt (tgt := 194) hx hb dX2_restOf_84 (by decide) r_k (fun cneg => ?_) (fun cneg => ?_)
              · refine r_ldc hx hb (-2147483648) hown (hts _ q1289) (by decide) dX2_restOf_194 ?_
                exact m_iret hC hQ hr hlk hM hS dX2_restOf_196 (⟨by rw [if_pos (show restI (lvF (I 1) (F 2) (F 3) (heavyS (I 4) (F 9) (F 5) (I 10) (F 14))) (arF (I 1) (F 2) (F 3) (heavyS (I 4) (F 9) (F 5) (I 10) (F 14)) (downS (I 4) (F 9) (F 5) (fun w => F 27 (12 * 0 + w)) (F 7) (I 10) (F 14) (F 13) (F 11) (F 12))) kk = -1 from if_pos cneg)], ⟨_, _, rfl⟩, ⟨_, _, rfl⟩⟩)
              · have er1 := er (by omega)
                obtain ⟨hg1, hg2⟩ := hg i (by omega) (by omega)
                obtain ⟨hg3, hg4⟩ := hg (i + 1) (by omega) (by omega)
                have hlo1 : (lvF (I 1) (F 2) (F 3) (heavyS (I 4) (F 9) (F 5) (I 10) (F 14))) (i - 80) = -2147483648 ∨ (-2000 ≤ (lvF (I 1) (F 2) (F 3) (heavyS (I 4) (F 9) (F 5) (I 10) (F 14))) (i - 80) ∧ (lvF (I 1) (F 2) (F 3) (heavyS (I 4) (F 9) (F 5) (I 10) (F 14))) (i - 80) ≤ 4000) := levelS_or _ _
                have hlo2 : (lvF (I 1) (F 2) (F 3) (heavyS (I 4) (F 9) (F 5) (I 10) (F 14))) (i + 1 - 80) = -2147483648 ∨ (-2000 ≤ (lvF (I 1) (F 2) (F 3) (heavyS (I 4) (F 9) (F 5) (I 10) (F 14))) (i + 1 - 80) ∧ (lvF (I 1) (F 2) (F 3) (heavyS (I 4) (F 9) (F 5) (I 10) (F 14))) (i + 1 - 80) ≤ 4000) := levelS_or _ _
                have rg1 : 0 ≤ g1 i ∧ g1 i ≤ 1 := by rw [hg1]; split <;> decide
                have rg3 : 0 ≤ g1 (i + 1) ∧ g1 (i + 1) ≤ 1 := by rw [hg3]; split <;> decide
                refine lv_aload_n hx hb dX2_restOf_87 rfl (lv_at hl 2 rfl) ?_
                refine mg_69 hC hM dX2_restOf_88 ?_
                refine lv_iload hx hb dX2_restOf_91 (lv_at hl 0 rfl) ?_
                refine ml_69 (v := g1 i) hC hM (by omega) rfl dX2_restOf_93 ?_
                refine r_if_eq (tgt := 188) hx hb dX2_restOf_94 (by decide) (by omega) (fun cz => ?_) (fun cz => ?_)
                · refine lv_iinc (v := iI (i + 1)) (lv' := [(4, .int (iI (i + 1))), (3, .int (iI left)), (0, .ref h), (1, .int (iI kk)), (2, .int (iI slp))]) hx hb dX2_restOf_188 hl (k := 0) rfl (iI_add _ _) (by decide) rfl (fun ls hl => ?_)
                  refine lv_goto (tgt := 75) hx hb dX2_restOf_191 (by decide) ?_
                  exact ih6 left (i + 1) (by omega) (by omega) (by omega) (fun q => by rw [← er1, rstF_s (i := i) (by omega), if_neg (show ¬ chgS (lvF (I 1) (F 2) (F 3) (heavyS (I 4) (F 9) (F 5) (I 10) (F 14))) (arF (I 1) (F 2) (F 3) (heavyS (I 4) (F 9) (F 5) (I 10) (F 14)) (downS (I 4) (F 9) (F 5) (fun w => F 27 (12 * 0 + w)) (F 7) (I 10) (F 14) (F 13) (F 11) (F 12))) i = true from fun q => (of_decide_eq_true q).1 (by rw [hg1] at cz; split at cz <;> first | assumption | omega))]) (fun q => by omega) (by omega) (by omega) _ _ _ hM hS (lv_sub hl [0, 1, 2, 3, 4] rfl)
                · refine lv_aload_n hx hb dX2_restOf_97 rfl (lv_at hl 2 rfl) ?_
                  refine mg_69 hC hM dX2_restOf_98 ?_
                  refine lv_iload hx hb dX2_restOf_101 (lv_at hl 0 rfl) ?_
                  refine r_iconst hx hb dX2_restOf_103 ?_
                  refine r_iadd hx hb dX2_restOf_104 ?_
                  refine ml_69 (v := g1 (i + 1)) hC hM (by omega) rfl dX2_restOf_105 ?_
                  refine r_if_eq (tgt := 188) hx hb dX2_restOf_106 (by decide) (by omega) (fun cz2 => ?_) (fun cz2 => ?_)
                  · refine lv_iinc (v := iI (i + 1)) (lv' := [(4, .int (iI (i + 1))), (3, .int (iI left)), (0, .ref h), (1, .int (iI kk)), (2, .int (iI slp))]) hx hb dX2_restOf_188 hl (k := 0) rfl (iI_add _ _) (by decide) rfl (fun ls hl => ?_)
                    refine lv_goto (tgt := 75) hx hb dX2_restOf_191 (by decide) ?_
                    exact ih6 left (i + 1) (by omega) (by omega) (by omega) (fun q => by rw [← er1, rstF_s (i := i) (by omega), if_neg (show ¬ chgS (lvF (I 1) (F 2) (F 3) (heavyS (I 4) (F 9) (F 5) (I 10) (F 14))) (arF (I 1) (F 2) (F 3) (heavyS (I 4) (F 9) (F 5) (I 10) (F 14)) (downS (I 4) (F 9) (F 5) (fun w => F 27 (12 * 0 + w)) (F 7) (I 10) (F 14) (F 13) (F 11) (F 12))) i = true from fun q => (of_decide_eq_true q).2.1 (by rw [hg3] at cz2; split at cz2 <;> first | assumption | omega))]) (fun q => by omega) (by omega) (by omega) _ _ _ hM hS (lv_sub hl [0, 1, 2, 3, 4] rfl)
                  · have l1 : (lvF (I 1) (F 2) (F 3) (heavyS (I 4) (F 9) (F 5) (I 10) (F 14))) (i - 80) ≠ -2147483648 := fun q => cz (by rw [hg1, if_pos q])
                    have l2 : (lvF (I 1) (F 2) (F 3) (heavyS (I 4) (F 9) (F 5) (I 10) (F 14))) (i + 1 - 80) ≠ -2147483648 := fun q => cz2 (by rw [hg3, if_pos q])
                    have e1 := hg2 l1
                    have e2 := hg4 l2
                    have hb1 := arF_bd (down := downS (I 4) (F 9) (F 5) (fun w => F 27 (12 * 0 + w)) (F 7) (I 10) (F 14) (F 13) (F 11) (F 12)) (sl := i - 80) (by omega) i1 a2 a3 (by omega) (downS_bd (by omega) i4 i10 a5 (fun z h0 h1 => gp0 _ (by omega) (by omega)) a7 a14 a11 a12) l1
                    have hb2 := arF_bd (down := downS (I 4) (F 9) (F 5) (fun w => F 27 (12 * 0 + w)) (F 7) (I 10) (F 14) (F 13) (F 11) (F 12)) (sl := i + 1 - 80) (by omega) i1 a2 a3 (by omega) (downS_bd (by omega) i4 i10 a5 (fun z h0 h1 => gp0 _ (by omega) (by omega)) a7 a14 a11 a12) l2
                    rw [← e1] at hb1
                    rw [← e2] at hb2
                    refine lv_aload_n hx hb dX2_restOf_109 rfl (lv_at hl 2 rfl) ?_
                    refine mg_68 hC hM dX2_restOf_110 ?_
                    refine lv_iload hx hb dX2_restOf_113 (lv_at hl 0 rfl) ?_
                    refine ml_68 (v := g i) hC hM (by omega) rfl dX2_restOf_115 ?_
                    refine r_lconst hx hb 0 dX2_restOf_116 (by decide) ?_
                    refine r_lcmp hx hb dX2_restOf_117 (by omega) (by decide) ?_
                    refine r_lif_le (tgt := 125) hx hb dX2_restOf_118 (by decide) (fun c9 => ?_) (fun c9 => ?_)
                    · refine r_iconst hx hb dX2_restOf_125 ?_
                      refine lv_aload_n hx hb dX2_restOf_126 rfl (lv_at hl 2 rfl) ?_
                      refine mg_68 hC hM dX2_restOf_127 ?_
                      refine lv_iload hx hb dX2_restOf_130 (lv_at hl 0 rfl) ?_
                      refine r_iconst hx hb dX2_restOf_132 ?_
                      refine r_iadd hx hb dX2_restOf_133 ?_
                      refine ml_68 (v := g (i + 1)) hC hM (by omega) rfl dX2_restOf_134 ?_
                      refine r_lconst hx hb 0 dX2_restOf_135 (by decide) ?_
                      refine r_lcmp hx hb dX2_restOf_136 (by omega) (by decide) ?_
                      refine r_lif_le (tgt := 144) hx hb dX2_restOf_137 (by decide) (fun c10 => ?_) (fun c10 => ?_)
                      · refine r_iconst hx hb dX2_restOf_144 ?_
                        refine r_icmp_ne (tgt := 151) hx hb dX2_restOf_145 (by decide) (by decide) (by decide) (fun c11 => absurd c11 (by decide)) (fun c11 => ?_)
                        refine lv_goto (tgt := 188) hx hb dX2_restOf_148 (by decide) ?_
                        refine lv_iinc (v := iI (i + 1)) (lv' := [(4, .int (iI (i + 1))), (3, .int (iI left)), (0, .ref h), (1, .int (iI kk)), (2, .int (iI slp))]) hx hb dX2_restOf_188 hl (k := 0) rfl (iI_add _ _) (by decide) rfl (fun ls hl => ?_)
                        refine lv_goto (tgt := 75) hx hb dX2_restOf_191 (by decide) ?_
                        exact ih6 left (i + 1) (by omega) (by omega) (by omega) (fun q => by rw [← er1, rstF_s (i := i) (by omega), if_neg (show ¬ chgS (lvF (I 1) (F 2) (F 3) (heavyS (I 4) (F 9) (F 5) (I 10) (F 14))) (arF (I 1) (F 2) (F 3) (heavyS (I 4) (F 9) (F 5) (I 10) (F 14)) (downS (I 4) (F 9) (F 5) (fun w => F 27 (12 * 0 + w)) (F 7) (I 10) (F 14) (F 13) (F 11) (F 12))) i = true from fun q => (of_decide_eq_true q).2.2 (by rw [← e1, ← e2]; omega))]) (fun q => by omega) (by omega) (by omega) _ _ _ hM hS (lv_sub hl [0, 1, 2, 3, 4] rfl)
                      · refine r_iconst hx hb dX2_restOf_140 ?_
                        refine lv_goto (tgt := 145) hx hb dX2_restOf_141 (by decide) ?_
                        refine r_icmp_ne (tgt := 151) hx hb dX2_restOf_145 (by decide) (by decide) (by decide) (fun c12 => ?_) (fun c12 => absurd c12 (by decide))
                        have hch : chgS (lvF (I 1) (F 2) (F 3) (heavyS (I 4) (F 9) (F 5) (I 10) (F 14))) (arF (I 1) (F 2) (F 3) (heavyS (I 4) (F 9) (F 5) (I 10) (F 14)) (downS (I 4) (F 9) (F 5) (fun w => F 27 (12 * 0 + w)) (F 7) (I 10) (F 14) (F 13) (F 11) (F 12))) i = true := decide_eq_true ⟨l1, l2, by rw [← e1, ← e2]; omega⟩
                        refine lv_iload_n hx hb dX2_restOf_151 rfl (lv_at hl 1 rfl) ?_
                        refine r_if_ne (tgt := 185) hx hb dX2_restOf_152 (by decide) (by omega) (fun cl0 => ?_) (fun cl0 => ?_)
                        · refine lv_iinc (v := iI (left + (-1))) (lv' := [(3, .int (iI (left + (-1)))), (4, .int (iI i)), (0, .ref h), (1, .int (iI kk)), (2, .int (iI slp))]) hx hb dX2_restOf_185 hl (k := 1) rfl (iI_add _ _) (by decide) rfl (fun ls hl => ?_)
                          refine lv_iinc (v := iI (i + 1)) (lv' := [(4, .int (iI (i + 1))), (3, .int (iI (left + (-1)))), (0, .ref h), (1, .int (iI kk)), (2, .int (iI slp))]) hx hb dX2_restOf_188 hl (k := 1) rfl (iI_add _ _) (by decide) rfl (fun ls hl => ?_)
                          refine lv_goto (tgt := 75) hx hb dX2_restOf_191 (by decide) ?_
                          exact ih6 (left + (-1)) (i + 1) (by omega) (by omega) (by omega) (fun q => by rw [← er1, rstF_s (i := i) (by omega), if_pos hch, if_neg cl0]; rfl) (fun q => by omega) (by omega) (by omega) _ _ _ hM hS (lv_sub hl [0, 1, 2, 3, 4] rfl)
                        · have eri : restI (lvF (I 1) (F 2) (F 3) (heavyS (I 4) (F 9) (F 5) (I 10) (F 14))) (arF (I 1) (F 2) (F 3) (heavyS (I 4) (F 9) (F 5) (I 10) (F 14)) (downS (I 4) (F 9) (F 5) (fun w => F 27 (12 * 0 + w)) (F 7) (I 10) (F 14) (F 13) (F 11) (F 12))) kk = i := by rw [← er1, rstF_s (i := i) (by omega), if_pos hch, if_pos cl0]
                          refine lv_iload_n hx hb dX2_restOf_155 rfl (lv_at hl 4 rfl) ?_
                          refine r_if_eq (tgt := 167) hx hb dX2_restOf_156 (by decide) r_s (fun c13 => ?_) (fun c13 => ?_)
                          · refine lv_aload_n hx hb dX2_restOf_167 rfl (lv_at hl 2 rfl) ?_
                            refine mg_68 hC hM dX2_restOf_168 ?_
                            refine lv_iload hx hb dX2_restOf_171 (lv_at hl 0 rfl) ?_
                            refine ml_68 (v := g i) hC hM (by omega) rfl dX2_restOf_173 ?_
                            refine r_lconst hx hb 0 dX2_restOf_174 (by decide) ?_
                            refine r_lcmp hx hb dX2_restOf_175 (by omega) (by decide) ?_
                            refine r_lif_le (tgt := 183) hx hb dX2_restOf_176 (by decide) (fun c14 => ?_) (fun c14 => absurd c14 (by omega))
                            refine r_iconst hx hb dX2_restOf_183 ?_
                            exact m_iret hC hQ hr hlk hM hS dX2_restOf_184 (⟨by rw [eri, if_neg (by omega), if_neg (by omega), if_neg (by rw [← e1]; omega)], ⟨_, _, rfl⟩, ⟨_, _, rfl⟩⟩)
                          · refine lv_iload hx hb dX2_restOf_159 (lv_at hl 0 rfl) ?_
                            refine r_bipush hx hb dX2_restOf_161 (by decide) ?_
                            refine r_isub hx hb dX2_restOf_163 ?_
                            refine lv_goto (tgt := 184) hx hb dX2_restOf_164 (by decide) ?_
                            exact m_iret hC hQ hr hlk hM hS dX2_restOf_184 (⟨by rw [eri, if_neg (by omega), if_pos (by omega)], ⟨_, _, rfl⟩, ⟨_, _, rfl⟩⟩)
                    · refine r_iconst hx hb dX2_restOf_121 ?_
                      refine lv_goto (tgt := 126) hx hb dX2_restOf_122 (by decide) ?_
                      refine lv_aload_n hx hb dX2_restOf_126 rfl (lv_at hl 2 rfl) ?_
                      refine mg_68 hC hM dX2_restOf_127 ?_
                      refine lv_iload hx hb dX2_restOf_130 (lv_at hl 0 rfl) ?_
                      refine r_iconst hx hb dX2_restOf_132 ?_
                      refine r_iadd hx hb dX2_restOf_133 ?_
                      refine ml_68 (v := g (i + 1)) hC hM (by omega) rfl dX2_restOf_134 ?_
                      refine r_lconst hx hb 0 dX2_restOf_135 (by decide) ?_
                      refine r_lcmp hx hb dX2_restOf_136 (by omega) (by decide) ?_
                      refine r_lif_le (tgt := 144) hx hb dX2_restOf_137 (by decide) (fun c15 => ?_) (fun c15 => ?_)
                      · refine r_iconst hx hb dX2_restOf_144 ?_
                        refine r_icmp_ne (tgt := 151) hx hb dX2_restOf_145 (by decide) (by decide) (by decide) (fun c16 => ?_) (fun c16 => absurd c16 (by decide))
                        have hch : chgS (lvF (I 1) (F 2) (F 3) (heavyS (I 4) (F 9) (F 5) (I 10) (F 14))) (arF (I 1) (F 2) (F 3) (heavyS (I 4) (F 9) (F 5) (I 10) (F 14)) (downS (I 4) (F 9) (F 5) (fun w => F 27 (12 * 0 + w)) (F 7) (I 10) (F 14) (F 13) (F 11) (F 12))) i = true := decide_eq_true ⟨l1, l2, by rw [← e1, ← e2]; omega⟩
                        refine lv_iload_n hx hb dX2_restOf_151 rfl (lv_at hl 1 rfl) ?_
                        refine r_if_ne (tgt := 185) hx hb dX2_restOf_152 (by decide) (by omega) (fun cl0 => ?_) (fun cl0 => ?_)
                        · refine lv_iinc (v := iI (left + (-1))) (lv' := [(3, .int (iI (left + (-1)))), (4, .int (iI i)), (0, .ref h), (1, .int (iI kk)), (2, .int (iI slp))]) hx hb dX2_restOf_185 hl (k := 1) rfl (iI_add _ _) (by decide) rfl (fun ls hl => ?_)
                          refine lv_iinc (v := iI (i + 1)) (lv' := [(4, .int (iI (i + 1))), (3, .int (iI (left + (-1)))), (0, .ref h), (1, .int (iI kk)), (2, .int (iI slp))]) hx hb dX2_restOf_188 hl (k := 1) rfl (iI_add _ _) (by decide) rfl (fun ls hl => ?_)
                          refine lv_goto (tgt := 75) hx hb dX2_restOf_191 (by decide) ?_
                          exact ih6 (left + (-1)) (i + 1) (by omega) (by omega) (by omega) (fun q => by rw [← er1, rstF_s (i := i) (by omega), if_pos hch, if_neg cl0]; rfl) (fun q => by omega) (by omega) (by omega) _ _ _ hM hS (lv_sub hl [0, 1, 2, 3, 4] rfl)
                        · have eri : restI (lvF (I 1) (F 2) (F 3) (heavyS (I 4) (F 9) (F 5) (I 10) (F 14))) (arF (I 1) (F 2) (F 3) (heavyS (I 4) (F 9) (F 5) (I 10) (F 14)) (downS (I 4) (F 9) (F 5) (fun w => F 27 (12 * 0 + w)) (F 7) (I 10) (F 14) (F 13) (F 11) (F 12))) kk = i := by rw [← er1, rstF_s (i := i) (by omega), if_pos hch, if_pos cl0]
                          refine lv_iload_n hx hb dX2_restOf_155 rfl (lv_at hl 4 rfl) ?_
                          refine r_if_eq (tgt := 167) hx hb dX2_restOf_156 (by decide) r_s (fun c17 => ?_) (fun c17 => ?_)
                          · refine lv_aload_n hx hb dX2_restOf_167 rfl (lv_at hl 2 rfl) ?_
                            refine mg_68 hC hM dX2_restOf_168 ?_
                            refine lv_iload hx hb dX2_restOf_171 (lv_at hl 0 rfl) ?_
                            refine ml_68 (v := g i) hC hM (by omega) rfl dX2_restOf_173 ?_
                            refine r_lconst hx hb 0 dX2_restOf_174 (by decide) ?_
                            refine r_lcmp hx hb dX2_restOf_175 (by omega) (by decide) ?_
                            refine r_lif_le (tgt := 183) hx hb dX2_restOf_176 (by decide) (fun c18 => absurd c18 (by omega)) (fun c18 => ?_)
                            refine r_iconst hx hb dX2_restOf_179 ?_
                            refine lv_goto (tgt := 184) hx hb dX2_restOf_180 (by decide) ?_
                            exact m_iret hC hQ hr hlk hM hS dX2_restOf_184 (⟨by rw [eri, if_neg (by omega), if_neg (by omega), if_pos (by rw [← e1]; omega)], ⟨_, _, rfl⟩, ⟨_, _, rfl⟩⟩)
                          · refine lv_iload hx hb dX2_restOf_159 (lv_at hl 0 rfl) ?_
                            refine r_bipush hx hb dX2_restOf_161 (by decide) ?_
                            refine r_isub hx hb dX2_restOf_163 ?_
                            refine lv_goto (tgt := 184) hx hb dX2_restOf_164 (by decide) ?_
                            exact m_iret hC hQ hr hlk hM hS dX2_restOf_184 (⟨by rw [eri, if_neg (by omega), if_pos (by omega)], ⟨_, _, rfl⟩, ⟨_, _, rfl⟩⟩)
                      · refine r_iconst hx hb dX2_restOf_140 ?_
                        refine lv_goto (tgt := 145) hx hb dX2_restOf_141 (by decide) ?_
                        refine r_icmp_ne (tgt := 151) hx hb dX2_restOf_145 (by decide) (by decide) (by decide) (fun c19 => absurd c19 (by decide)) (fun c19 => ?_)
                        refine lv_goto (tgt := 188) hx hb dX2_restOf_148 (by decide) ?_
                        refine lv_iinc (v := iI (i + 1)) (lv' := [(4, .int (iI (i + 1))), (3, .int (iI left)), (0, .ref h), (1, .int (iI kk)), (2, .int (iI slp))]) hx hb dX2_restOf_188 hl (k := 0) rfl (iI_add _ _) (by decide) rfl (fun ls hl => ?_)
                        refine lv_goto (tgt := 75) hx hb dX2_restOf_191 (by decide) ?_
                        exact ih6 left (i + 1) (by omega) (by omega) (by omega) (fun q => by rw [← er1, rstF_s (i := i) (by omega), if_neg (show ¬ chgS (lvF (I 1) (F 2) (F 3) (heavyS (I 4) (F 9) (F 5) (I 10) (F 14))) (arF (I 1) (F 2) (F 3) (heavyS (I 4) (F 9) (F 5) (I 10) (F 14)) (downS (I 4) (F 9) (F 5) (fun w => F 27 (12 * 0 + w)) (F 7) (I 10) (F 14) (F 13) (F 11) (F 12))) i = true from fun q => (of_decide_eq_true q).2.2 (by rw [← e1, ← e2]; omega))]) (fun q => by omega) (by omega) (by omega) _ _ _ hM hS (lv_sub hl [0, 1, 2, 3, 4] rfl)
        exact loop75_5 ((160 - 0 : Int).toNat + 1) kk 0 (by omega) (by omega) (by omega) (fun q => (if_neg (by omega)).symm) (fun _ => rfl) (by omega) (by omega) _ _ _ hM hS (lv_sub hl [0, 1, 2, 3, 4] rfl)
      · have bk : -80 ≤ k ∧ k ≤ 80 := by omega
        refine lv_aload_n hx hb dX2_restOf_9 rfl (lv_at hl 1 rfl) ?_
        refine mg_69 hC hM dX2_restOf_10 ?_
        refine lv_iload_n hx hb dX2_restOf_13 rfl (lv_at hl 0 rfl) ?_
        refine r_bipush hx hb dX2_restOf_14 (by decide) ?_
        refine r_iadd hx hb dX2_restOf_16 ?_
        refine lv_aload_n hx hb dX2_restOf_17 rfl (lv_at hl 1 rfl) ?_
        refine lv_iload_n hx hb dX2_restOf_18 rfl (lv_at hl 0 rfl) ?_
        refine m_calli (kX2_levelAt (rest := [.int (iI (k + 80)), .ref (ad 69)]) (as := [.int (iI k)]) hC hml (met_levelAt l D E A h ad (va_up (va_up I 66 a) 67 b) (va_up (va_up F 68 g) 69 g1) k (by omega) gh0 gl0) ⟨rfl, rfl⟩ hR (by decide) hM rfl hl.1 rfl (Nat.le_of_ble_eq_true rfl) dX2_restOf_19) hS (fun lv23 I24 F25 H locs hp26 hM hS => ?_)
        obtain ⟨rfl, ⟨ga20, gb21, rfl, hab22⟩, rfl⟩ := hp26
        refine W.eq (g2 := F0 m 22 ls [.int (iI (lvF (I 1) (F 2) (F 3) (heavyS (I 4) (F 9) (F 5) (I 10) (F 14)) k)), .int (iI (k + 80)), .ref (ad 69)]) rfl ?_
        refine r_ldc hx hb (-2147483648) hown (hts _ q1289) (by decide) dX2_restOf_22 ?_
        have hlo : lvF (I 1) (F 2) (F 3) (heavyS (I 4) (F 9) (F 5) (I 10) (F 14)) k = -2147483648 ∨ (-2000 ≤ lvF (I 1) (F 2) (F 3) (heavyS (I 4) (F 9) (F 5) (I 10) (F 14)) k ∧ lvF (I 1) (F 2) (F 3) (heavyS (I 4) (F 9) (F 5) (I 10) (F 14)) k ≤ 4000) := levelS_or _ _
        refine r_icmp_eq (tgt := 31) hx hb dX2_restOf_24 (by decide) (by omega) (by decide) (fun cv => ?_) (fun cv => ?_)
        · refine r_iconst hx hb dX2_restOf_31 ?_
          refine ms_69 (v := 0) hC hM hS (by omega) (by decide) dX2_restOf_32 (fun H locs hM hS => ?_)
          rw [upF_up] at hM
          refine lv_aload_n hx hb dX2_restOf_33 rfl (lv_at hl 1 rfl) ?_
          refine mg_68 hC hM dX2_restOf_34 ?_
          refine lv_iload_n hx hb dX2_restOf_37 rfl (lv_at hl 0 rfl) ?_
          refine r_bipush hx hb dX2_restOf_38 (by decide) ?_
          refine r_iadd hx hb dX2_restOf_40 ?_
          refine lv_aload_n hx hb dX2_restOf_41 rfl (lv_at hl 1 rfl) ?_
          refine mg_69 hC hM dX2_restOf_42 ?_
          refine lv_iload_n hx hb dX2_restOf_45 rfl (lv_at hl 0 rfl) ?_
          refine r_bipush hx hb dX2_restOf_46 (by decide) ?_
          refine r_iadd hx hb dX2_restOf_48 ?_
          refine ml_69 (v := 0) hC hM (by omega) (by simp [va_up, updZ]) dX2_restOf_49 ?_
          refine r_if_eq (tgt := 62) hx hb dX2_restOf_50 (by decide) (by decide) (fun c27 => ?_) (fun c27 => absurd c27 (by decide))
          refine r_lconst hx hb 0 dX2_restOf_62 (by decide) ?_
          refine ms_68 (v := 0) hC hM hS (by omega) dX2_restOf_63 (fun H locs hM hS => ?_)
          refine lv_iinc (v := iI (k + 1)) (lv' := [(3, .int (iI (k + 1))), (0, .ref h), (1, .int (iI kk)), (2, .int (iI slp))]) hx hb dX2_restOf_64 hl (k := 0) rfl (iI_add _ _) (by decide) rfl (fun ls hl => ?_)
          refine lv_goto (tgt := 3) hx hb dX2_restOf_67 (by decide) ?_
          exact ih2 (k + 1) (va_up (va_up (va_up (va_up I 66 a) 67 b) 66 ga20) 67 gb21) (upF (va_up (va_up F 68 g) 69 (updZ g1 (k + 80) 0)) 68 (k + 80) 0) (by omega) (by omega) (by omega) (⟨_, _, up4 I a b _ _⟩) (⟨_, _, upF_up1 F _ _ _ _, fun i h0 h1 => by by_cases hik : i = k + 80; subst hik; rw [updZ_s, show k + 80 - 80 = k by omega]; exact ⟨(if_pos cv).symm, fun q => absurd cv q⟩; rw [updZ_n hik, updZ_n hik]; exact hg i h0 (by omega)⟩) _ _ _ hM hS (lv_sub hl [0, 1, 2, 3] rfl)
        · refine r_iconst hx hb dX2_restOf_27 ?_
          refine lv_goto (tgt := 32) hx hb dX2_restOf_28 (by decide) ?_
          refine ms_69 (v := 1) hC hM hS (by omega) (by decide) dX2_restOf_32 (fun H locs hM hS => ?_)
          rw [upF_up] at hM
          obtain ⟨ea, eb⟩ := hab22 cv
          subst ea
          subst eb
          have hp1 := hpb k (lvF (I 1) (F 2) (F 3) (heavyS (I 4) (F 9) (F 5) (I 10) (F 14)) k)
          have hu1 := hub k (lvF (I 1) (F 2) (F 3) (heavyS (I 4) (F 9) (F 5) (I 10) (F 14)) k) (by omega)
          have hin := levelS_in (hv := heavyS (I 4) (F 9) (F 5) (I 10) (F 14)) (f := pushS (I 1) (F 2) (F 3) k) cv
          have hpp : 0 < pushS (I 1) (F 2) (F 3) k (lvF (I 1) (F 2) (F 3) (heavyS (I 4) (F 9) (F 5) (I 10) (F 14)) k) ∧ pushS (I 1) (F 2) (F 3) k (lvF (I 1) (F 2) (F 3) (heavyS (I 4) (F 9) (F 5) (I 10) (F 14)) k) ≤ 21600 := ⟨by have q1 := hin.2.1; have q2 := hin.2.2; unfold lvF; omega, hp1.2⟩
          refine lv_aload_n hx hb dX2_restOf_33 rfl (lv_at hl 1 rfl) ?_
          refine mg_68 hC hM dX2_restOf_34 ?_
          refine lv_iload_n hx hb dX2_restOf_37 rfl (lv_at hl 0 rfl) ?_
          refine r_bipush hx hb dX2_restOf_38 (by decide) ?_
          refine r_iadd hx hb dX2_restOf_40 ?_
          refine lv_aload_n hx hb dX2_restOf_41 rfl (lv_at hl 1 rfl) ?_
          refine mg_69 hC hM dX2_restOf_42 ?_
          refine lv_iload_n hx hb dX2_restOf_45 rfl (lv_at hl 0 rfl) ?_
          refine r_bipush hx hb dX2_restOf_46 (by decide) ?_
          refine r_iadd hx hb dX2_restOf_48 ?_
          refine ml_69 (v := 1) hC hM (by omega) (by simp [va_up, updZ]) dX2_restOf_49 ?_
          refine r_if_eq (tgt := 62) hx hb dX2_restOf_50 (by decide) (by decide) (fun c28 => absurd c28 (by decide)) (fun c28 => ?_)
          refine lv_aload_n hx hb dX2_restOf_53 rfl (lv_at hl 1 rfl) ?_
          refine r_iconst hx hb dX2_restOf_54 ?_
          refine lv_iload_n hx hb dX2_restOf_55 rfl (lv_at hl 0 rfl) ?_
          refine m_calll (kX2_armAt (rest := [.int (iI (k + 80)), .ref (ad 68)]) (as := [.int (iI 0), .int (iI k)]) hC hml (met_armAt l D E A h ad (va_up (va_up (va_up (va_up I 66 a) 67 b) 66 (pushS (I 1) (F 2) (F 3) k (lvF (I 1) (F 2) (F 3) (heavyS (I 4) (F 9) (F 5) (I 10) (F 14)) k))) 67 (upS (I 1) (F 2) (F 3) k (lvF (I 1) (F 2) (F 3) (heavyS (I 4) (F 9) (F 5) (I 10) (F 14)) k))) (va_up (va_up F 68 g) 69 (updZ g1 (k + 80) 1)) 0 k (fun w => F 27 (12 * 0 + w)) (fun _ _ _ => rfl) (by omega) (by omega) gl0 (fun z h0 h1 => gp0 _ (by omega) (by omega)) hpp hu1) ⟨rfl, rfl⟩ hR (by decide) hM rfl hl.1 rfl (Nat.le_of_ble_eq_true rfl) dX2_restOf_56) hS (fun z29 I30 F31 H locs hp32 hM hS => ?_)
          obtain ⟨rfl, rfl, rfl⟩ := hp32
          refine W.eq (g2 := F0 m 59 ls [.long (iL (armS (upS (I 1) (F 2) (F 3) k (lvF (I 1) (F 2) (F 3) (heavyS (I 4) (F 9) (F 5) (I 10) (F 14)) k)) (heavyS (I 4) (F 9) (F 5) (I 10) (F 14)) (pushS (I 1) (F 2) (F 3) k (lvF (I 1) (F 2) (F 3) (heavyS (I 4) (F 9) (F 5) (I 10) (F 14)) k)) (downS (I 4) (F 9) (F 5) (fun w => F 27 (12 * 0 + w)) (F 7) (I 10) (F 14) (F 13) (F 11) (F 12) k))), .int (iI (k + 80)), .ref (ad 68)]) rfl ?_
          refine lv_goto (tgt := 63) hx hb dX2_restOf_59 (by decide) ?_
          refine ms_68 (v := armS (upS (I 1) (F 2) (F 3) k (lvF (I 1) (F 2) (F 3) (heavyS (I 4) (F 9) (F 5) (I 10) (F 14)) k)) (heavyS (I 4) (F 9) (F 5) (I 10) (F 14)) (pushS (I 1) (F 2) (F 3) k (lvF (I 1) (F 2) (F 3) (heavyS (I 4) (F 9) (F 5) (I 10) (F 14)) k)) (downS (I 4) (F 9) (F 5) (fun w => F 27 (12 * 0 + w)) (F 7) (I 10) (F 14) (F 13) (F 11) (F 12) k)) hC hM hS (by omega) dX2_restOf_63 (fun H locs hM hS => ?_)
          refine lv_iinc (v := iI (k + 1)) (lv' := [(3, .int (iI (k + 1))), (0, .ref h), (1, .int (iI kk)), (2, .int (iI slp))]) hx hb dX2_restOf_64 hl (k := 0) rfl (iI_add _ _) (by decide) rfl (fun ls hl => ?_)
          refine lv_goto (tgt := 3) hx hb dX2_restOf_67 (by decide) ?_
          exact ih2 (k + 1) (va_up (va_up (va_up (va_up I 66 a) 67 b) 66 (pushS (I 1) (F 2) (F 3) k (lvF (I 1) (F 2) (F 3) (heavyS (I 4) (F 9) (F 5) (I 10) (F 14)) k))) 67 (upS (I 1) (F 2) (F 3) k (lvF (I 1) (F 2) (F 3) (heavyS (I 4) (F 9) (F 5) (I 10) (F 14)) k))) (upF (va_up (va_up F 68 g) 69 (updZ g1 (k + 80) 1)) 68 (k + 80) (armS (upS (I 1) (F 2) (F 3) k (lvF (I 1) (F 2) (F 3) (heavyS (I 4) (F 9) (F 5) (I 10) (F 14)) k)) (heavyS (I 4) (F 9) (F 5) (I 10) (F 14)) (pushS (I 1) (F 2) (F 3) k (lvF (I 1) (F 2) (F 3) (heavyS (I 4) (F 9) (F 5) (I 10) (F 14)) k)) (downS (I 4) (F 9) (F 5) (fun w => F 27 (12 * 0 + w)) (F 7) (I 10) (F 14) (F 13) (F 11) (F 12) k))) (by omega) (by omega) (by omega) (⟨_, _, up4 I a b _ _⟩) (⟨_, _, upF_up1 F _ _ _ _, fun i h0 h1 => by by_cases hik : i = k + 80; subst hik; rw [updZ_s, updZ_s, show k + 80 - 80 = k by omega]; exact ⟨(if_neg cv).symm, fun q => rfl⟩; rw [updZ_n hik, updZ_n hik]; exact hg i h0 (by omega)⟩) _ _ _ hM hS (lv_sub hl [0, 1, 2, 3] rfl)
  exact loop3_1 ((81 - (-80) : Int).toNat + 1) (-80) I F (by omega) (by omega) (by omega) (⟨I 66, I 67, (up2s I).symm⟩) (⟨F 68, F 69, by rw [up_self, up_self], fun i h0 h1 => by omega⟩) _ _ _ hM hS (lv_sub hl [0, 1, 2, 3] rfl)
theorem dX2_rest_0 : decode cX2_rest 0 = .ok (.aload_n 0, 1) := by decide +kernel
theorem dX2_rest_1 : decode cX2_rest 1 = .ok (.iload_n 1, 1) := by decide +kernel
theorem dX2_rest_2 : decode cX2_rest 2 = .ok (.iconst 1, 1) := by decide +kernel
theorem dX2_rest_3 : decode cX2_rest 3 = .ok (.invokevirtual 222, 3) := by decide +kernel
theorem dX2_rest_6 : decode cX2_rest 6 = .ok (.ireturn, 1) := by decide +kernel
set_option maxHeartbeats 4000000 in
theorem met_rest (l : Launch) (D : va_G) (E : Nat → ClassId) (A : Nat → Prop) (h : Nat) (ad : Nat → Nat) (I : Nat → Int) (F : Nat → Int → Int) (kk : Int) (r_k : R32 kk) (gh0 : gHull I F) (gl0 : gLoad I F) (gp0 : Bd (F 27) 24 (-19) 19) : MM l yX2_rest cX2_rest 2 (some .int) (mrm 3) D E A h ad [.int (iI kk)] I F (MQi D E A h ad (fun z I1 F1 => restS (lvF (I 1) (F 2) (F 3) (heavyS (I 4) (F 9) (F 5) (I 10) (F 14))) (arF (I 1) (F 2) (F 3) (heavyS (I 4) (F 9) (F 5) (I 10) (F 14)) (downS (I 4) (F 9) (F 5) (fun w => F 27 (12 * 0 + w)) (F 7) (I 10) (F 14) (F 13) (F 11) (F 12))) kk = z ∧ (∃ a b, va_up (va_up I 66 a) 67 b = I1) ∧ ∃ g g1, va_up (va_up F 68 g) 69 g1 = F1)) := by
  refine m_start (by decide) rfl (Nat.le_of_ble_eq_true rfl) ?_
  intro p e R s m args below meth c ls Q hR hQ hC hml hr hlk hM hS hl
  have hx := hC.1
  have hb := hC.2.1
  have hown := hC.2.2.1
  have hts := hC.2.2.2.1
  have hl : lv_has ls 2 [(0, .ref h), (1, .int (iI kk))] := hl
  refine lv_aload_n hx hb dX2_rest_0 rfl (lv_at hl 0 rfl) ?_
  refine lv_iload_n hx hb dX2_rest_1 rfl (lv_at hl 1 rfl) ?_
  refine r_iconst hx hb dX2_rest_2 ?_
  refine m_calli (kX2_restOf (rest := []) (as := [.int (iI kk), .int (iI 1)]) hC hml (met_restOf l D E A h ad I F kk 1 r_k (by decide) gh0 gl0 gp0) ⟨rfl, rfl⟩ hR (by decide) hM rfl hl.1 rfl (Nat.le_of_ble_eq_true rfl) dX2_rest_3) hS (fun z1 I2 F3 H locs hp4 hM hS => ?_)
  obtain ⟨rfl, ⟨a, b, rfl⟩, ⟨g, g1, rfl⟩⟩ := hp4
  exact m_iret hC hQ hr hlk hM hS dX2_rest_6 (⟨by unfold restS; split; rfl; rw [if_pos (by decide)], ⟨_, _, rfl⟩, ⟨_, _, rfl⟩⟩)
theorem dX2_stays_0 : decode cX2_stays 0 = .ok (.aload_n 0, 1) := by decide +kernel
theorem dX2_stays_1 : decode cX2_stays 1 = .ok (.iload_n 1, 1) := by decide +kernel
theorem dX2_stays_2 : decode cX2_stays 2 = .ok (.iconst 0, 1) := by decide +kernel
theorem dX2_stays_3 : decode cX2_stays 3 = .ok (.invokevirtual 222, 3) := by decide +kernel
theorem dX2_stays_6 : decode cX2_stays 6 = .ok (.istore_n 2, 1) := by decide +kernel
theorem dX2_stays_7 : decode cX2_stays 7 = .ok (.iload_n 2, 1) := by decide +kernel
theorem dX2_stays_8 : decode cX2_stays 8 = .ok (.ldc 205, 2) := by decide +kernel
theorem dX2_stays_10 : decode cX2_stays 10 = .ok (.if_icmp .ne 7, 3) := by decide +kernel
theorem dX2_stays_13 : decode cX2_stays 13 = .ok (.iconst (-1), 1) := by decide +kernel
theorem dX2_stays_14 : decode cX2_stays 14 = .ok (.goto 4, 3) := by decide +kernel
theorem dX2_stays_17 : decode cX2_stays 17 = .ok (.iload_n 2, 1) := by decide +kernel
theorem dX2_stays_18 : decode cX2_stays 18 = .ok (.ireturn, 1) := by decide +kernel
set_option maxHeartbeats 4000000 in
theorem met_stays (l : Launch) (D : va_G) (E : Nat → ClassId) (A : Nat → Prop) (h : Nat) (ad : Nat → Nat) (I : Nat → Int) (F : Nat → Int → Int) (kk : Int) (r_k : R32 kk) (gh0 : gHull I F) (gl0 : gLoad I F) (gp0 : Bd (F 27) 24 (-19) 19) : MM l yX2_stays cX2_stays 3 (some .int) (mrm 3) D E A h ad [.int (iI kk)] I F (MQi D E A h ad (fun z I1 F1 => staysS (lvF (I 1) (F 2) (F 3) (heavyS (I 4) (F 9) (F 5) (I 10) (F 14))) (arF (I 1) (F 2) (F 3) (heavyS (I 4) (F 9) (F 5) (I 10) (F 14)) (downS (I 4) (F 9) (F 5) (fun w => F 27 (12 * 0 + w)) (F 7) (I 10) (F 14) (F 13) (F 11) (F 12))) kk = z ∧ (∃ a b, va_up (va_up I 66 a) 67 b = I1) ∧ ∃ g g1, va_up (va_up F 68 g) 69 g1 = F1)) := by
  refine m_start (by decide) rfl (Nat.le_of_ble_eq_true rfl) ?_
  intro p e R s m args below meth c ls Q hR hQ hC hml hr hlk hM hS hl
  have hx := hC.1
  have hb := hC.2.1
  have hown := hC.2.2.1
  have hts := hC.2.2.2.1
  have hl : lv_has ls 3 [(0, .ref h), (1, .int (iI kk))] := hl
  refine lv_aload_n hx hb dX2_stays_0 rfl (lv_at hl 0 rfl) ?_
  refine lv_iload_n hx hb dX2_stays_1 rfl (lv_at hl 1 rfl) ?_
  refine r_iconst hx hb dX2_stays_2 ?_
  refine m_calli (kX2_restOf (rest := []) (as := [.int (iI kk), .int (iI 0)]) hC hml (met_restOf l D E A h ad I F kk 0 r_k (by decide) gh0 gl0 gp0) ⟨rfl, rfl⟩ hR (by decide) hM rfl hl.1 rfl (Nat.le_of_ble_eq_true rfl) dX2_stays_3) hS (fun z1 I2 F3 H locs hp4 hM hS => ?_)
  obtain ⟨rfl, ⟨a, b, rfl⟩, ⟨g, g1, rfl⟩⟩ := hp4
  obtain ⟨zz, h_zz⟩ : ∃ x : Int, x = if restI (lvF (I 1) (F 2) (F 3) (heavyS (I 4) (F 9) (F 5) (I 10) (F 14))) (arF (I 1) (F 2) (F 3) (heavyS (I 4) (F 9) (F 5) (I 10) (F 14)) (downS (I 4) (F 9) (F 5) (fun w => F 27 (12 * 0 + w)) (F 7) (I 10) (F 14) (F 13) (F 11) (F 12))) kk = -1 then -2147483648 else if 0 ≠ 0 then restI (lvF (I 1) (F 2) (F 3) (heavyS (I 4) (F 9) (F 5) (I 10) (F 14))) (arF (I 1) (F 2) (F 3) (heavyS (I 4) (F 9) (F 5) (I 10) (F 14)) (downS (I 4) (F 9) (F 5) (fun w => F 27 (12 * 0 + w)) (F 7) (I 10) (F 14) (F 13) (F 11) (F 12))) kk - 80 else if 0 < (arF (I 1) (F 2) (F 3) (heavyS (I 4) (F 9) (F 5) (I 10) (F 14)) (downS (I 4) (F 9) (F 5) (fun w => F 27 (12 * 0 + w)) (F 7) (I 10) (F 14) (F 13) (F 11) (F 12))) (restI (lvF (I 1) (F 2) (F 3) (heavyS (I 4) (F 9) (F 5) (I 10) (F 14))) (arF (I 1) (F 2) (F 3) (heavyS (I 4) (F 9) (F 5) (I 10) (F 14)) (downS (I 4) (F 9) (F 5) (fun w => F 27 (12 * 0 + w)) (F 7) (I 10) (F 14) (F 13) (F 11) (F 12))) kk - 80) then 0 else 1 := ⟨_, rfl⟩
  refine W.eq (g2 := F0 m 6 ls [.int (iI zz)]) (by subst h_zz; rfl) ?_
  have ezz := h_zz
  have hz : zz = -2147483648 ∨ (-80 ≤ zz ∧ zz ≤ 80) := by
    have hrr : restI (lvF (I 1) (F 2) (F 3) (heavyS (I 4) (F 9) (F 5) (I 10) (F 14))) (arF (I 1) (F 2) (F 3) (heavyS (I 4) (F 9) (F 5) (I 10) (F 14)) (downS (I 4) (F 9) (F 5) (fun w => F 27 (12 * 0 + w)) (F 7) (I 10) (F 14) (F 13) (F 11) (F 12))) kk = -1 ∨ (0 ≤ restI (lvF (I 1) (F 2) (F 3) (heavyS (I 4) (F 9) (F 5) (I 10) (F 14))) (arF (I 1) (F 2) (F 3) (heavyS (I 4) (F 9) (F 5) (I 10) (F 14)) (downS (I 4) (F 9) (F 5) (fun w => F 27 (12 * 0 + w)) (F 7) (I 10) (F 14) (F 13) (F 11) (F 12))) kk ∧ restI (lvF (I 1) (F 2) (F 3) (heavyS (I 4) (F 9) (F 5) (I 10) (F 14))) (arF (I 1) (F 2) (F 3) (heavyS (I 4) (F 9) (F 5) (I 10) (F 14)) (downS (I 4) (F 9) (F 5) (fun w => F 27 (12 * 0 + w)) (F 7) (I 10) (F 14) (F 13) (F 11) (F 12))) kk < 160) := by
      unfold restI
      split
      · exact Or.inl rfl
      · rcases rstF_in (chg := chgS (lvF (I 1) (F 2) (F 3) (heavyS (I 4) (F 9) (F 5) (I 10) (F 14))) (arF (I 1) (F 2) (F 3) (heavyS (I 4) (F 9) (F 5) (I 10) (F 14)) (downS (I 4) (F 9) (F 5) (fun w => F 27 (12 * 0 + w)) (F 7) (I 10) (F 14) (F 13) (F 11) (F 12)))) 160 0 kk (by decide) with q | q
        · exact Or.inl q
        · exact Or.inr ⟨q.1, by omega⟩
    rw [ezz]
    split
    · exact Or.inl rfl
    · split
      · exact Or.inr (by omega)
      · split <;> exact Or.inr (by decide)
  refine lv_istore_n (lv' := [(2, .int (iI zz)), (0, .ref h), (1, .int (iI kk))]) hx hb dX2_stays_6 rfl hl (by decide) rfl (fun ls hl => ?_)
  refine lv_iload_n hx hb dX2_stays_7 rfl (lv_at hl 0 rfl) ?_
  refine r_ldc hx hb (-2147483648) hown (hts _ q1289) (by decide) dX2_stays_8 ?_
  refine r_icmp_ne (tgt := 17) hx hb dX2_stays_10 (by decide) (by omega) (by decide) (fun cs => ?_) (fun cs => ?_)
  · refine lv_iload_n hx hb dX2_stays_17 rfl (lv_at hl 0 rfl) ?_
    exact m_iret hC hQ hr hlk hM hS dX2_stays_18 (⟨(stays_v ezz).2 cs, ⟨_, _, rfl⟩, ⟨_, _, rfl⟩⟩)
  · refine r_iconst hx hb dX2_stays_13 ?_
    refine lv_goto (tgt := 18) hx hb dX2_stays_14 (by decide) ?_
    exact m_iret hC hQ hr hlk hM hS dX2_stays_18 (⟨(stays_v ezz).1 cs, ⟨_, _, rfl⟩, ⟨_, _, rfl⟩⟩)
