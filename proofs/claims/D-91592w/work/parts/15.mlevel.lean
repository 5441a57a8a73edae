/-! THE MODEL: the level -/
set_option maxRecDepth 100000

theorem pushS_s {k : Int} (hk : 0 ≤ k) (len half : Int → Int) (sl lv : Int) : pushS (k + 1) len half sl lv = pushS k len half sl lv + sm (rowC len half sl lv k) 10 := by
  unfold pushS
  rw [sm_s _ hk]
theorem upS_s {k : Int} (hk : 0 ≤ k) (len half : Int → Int) (sl lv : Int) : upS (k + 1) len half sl lv = upS k len half sl lv + sm (rowU len half sl lv k) 10 := by
  unfold upS
  rw [sm_s _ hk]
theorem cntS_0 (sl lv y hf : Int) : cntS sl lv y hf (-hf + hf) = 0 := sm_neg _ (by omega)
theorem plcS_0 (sl lv y hf : Int) : plcS sl lv y hf (-hf + hf) = 0 := sm_neg _ (by omega)
def wA (F : Nat → Int → Int) (sl lv k z x : Int) : Int := pushS k (F 2) (F 3) sl lv + sm (rowC (F 2) (F 3) sl lv k) z + F 2 k * cntS sl lv (2 * z + 1) (F 3 (10 * k + z)) (x + F 3 (10 * k + z))
def wB (F : Nat → Int → Int) (sl lv k z x : Int) : Int := upS k (F 2) (F 3) sl lv + sm (rowU (F 2) (F 3) sl lv k) z + F 2 k * (100 * plcS sl lv (2 * z + 1) (F 3 (10 * k + z)) (x + F 3 (10 * k + z)) + sl * (2 * z + 1) * cntS sl lv (2 * z + 1) (F 3 (10 * k + z)) (x + F 3 (10 * k + z)))
theorem wA_0 (F : Nat → Int → Int) (sl lv k z : Int) : wA F sl lv k z (-(F 3 (10 * k + z))) = pushS k (F 2) (F 3) sl lv + sm (rowC (F 2) (F 3) sl lv k) z := by
  unfold wA
  rw [cntS_0, Int.mul_zero, Int.add_zero]
theorem wB_0 (F : Nat → Int → Int) (sl lv k z : Int) : wB F sl lv k z (-(F 3 (10 * k + z))) = upS k (F 2) (F 3) sl lv + sm (rowU (F 2) (F 3) sl lv k) z := by
  unfold wB
  rw [cntS_0, plcS_0]
  simp
theorem wA_n (F : Nat → Int → Int) {sl lv k z x : Int} (h : 0 ≤ x + F 3 (10 * k + z)) (hc : ¬ 100 * (2 * z + 1) ≤ lv + sl * (2 * x + 1)) : wA F sl lv k z (x + 1) = wA F sl lv k z x := by
  unfold wA
  rw [cntS_s _ _ _ _ h, if_neg hc, Int.add_zero]
theorem wB_n (F : Nat → Int → Int) {sl lv k z x : Int} (h : 0 ≤ x + F 3 (10 * k + z)) (hc : ¬ 100 * (2 * z + 1) ≤ lv + sl * (2 * x + 1)) : wB F sl lv k z (x + 1) = wB F sl lv k z x := by
  unfold wB
  rw [cntS_s _ _ _ _ h, plcS_s _ _ _ _ h, if_neg hc, if_neg hc, Int.add_zero, Int.add_zero]
theorem wA_y (F : Nat → Int → Int) {sl lv k z x : Int} (h : 0 ≤ x + F 3 (10 * k + z)) (hc : 100 * (2 * z + 1) ≤ lv + sl * (2 * x + 1)) : wA F sl lv k z (x + 1) = wA F sl lv k z x + F 2 k := by
  unfold wA
  rw [cntS_s _ _ _ _ h, if_pos hc, Int.mul_add, Int.mul_one]
  omega
theorem wB_y (F : Nat → Int → Int) {sl lv k z x : Int} (h : 0 ≤ x + F 3 (10 * k + z)) (hc : 100 * (2 * z + 1) ≤ lv + sl * (2 * x + 1)) : wB F sl lv k z (x + 1) = wB F sl lv k z x + F 2 k * (100 * (2 * x + 1) + sl * (2 * z + 1)) := by
  unfold wB
  rw [cntS_s _ _ _ _ h, plcS_s _ _ _ _ h, if_pos hc, if_pos hc]
  exact (ringB _ _ _ _ _ _).symm
theorem wA_e (F : Nat → Int → Int) (sl lv k : Int) {z : Int} (hz : 0 ≤ z) : wA F sl lv k z (F 3 (10 * k + z)) = pushS k (F 2) (F 3) sl lv + sm (rowC (F 2) (F 3) sl lv k) (z + 1) := by
  unfold wA
  rw [sm_s _ hz, ← Int.add_assoc, show F 3 (10 * k + z) + F 3 (10 * k + z) = 2 * F 3 (10 * k + z) by omega]
  rfl
theorem wB_e (F : Nat → Int → Int) (sl lv k : Int) {z : Int} (hz : 0 ≤ z) : wB F sl lv k z (F 3 (10 * k + z)) = upS k (F 2) (F 3) sl lv + sm (rowU (F 2) (F 3) sl lv k) (z + 1) := by
  unfold wB
  rw [sm_s _ hz, ← Int.add_assoc, show F 3 (10 * k + z) + F 3 (10 * k + z) = 2 * F 3 (10 * k + z) by omega]
  rfl
theorem dX2_wets_0 : decode cX2_wets 0 = .ok (.aload_n 0, 1) := by decide +kernel
theorem dX2_wets_1 : decode cX2_wets 1 = .ok (.iconst 0, 1) := by decide +kernel
theorem dX2_wets_2 : decode cX2_wets 2 = .ok (.putfield 194, 3) := by decide +kernel
theorem dX2_wets_5 : decode cX2_wets 5 = .ok (.aload_n 0, 1) := by decide +kernel
theorem dX2_wets_6 : decode cX2_wets 6 = .ok (.lconst 0, 1) := by decide +kernel
theorem dX2_wets_7 : decode cX2_wets 7 = .ok (.putfield 197, 3) := by decide +kernel
theorem dX2_wets_10 : decode cX2_wets 10 = .ok (.iconst 0, 1) := by decide +kernel
theorem dX2_wets_11 : decode cX2_wets 11 = .ok (.istore_n 3, 1) := by decide +kernel
theorem dX2_wets_12 : decode cX2_wets 12 = .ok (.iload_n 3, 1) := by decide +kernel
theorem dX2_wets_13 : decode cX2_wets 13 = .ok (.aload_n 0, 1) := by decide +kernel
theorem dX2_wets_14 : decode cX2_wets 14 = .ok (.getfield 178, 3) := by decide +kernel
theorem dX2_wets_17 : decode cX2_wets 17 = .ok (.if_icmp .ge 133, 3) := by decide +kernel
theorem dX2_wets_20 : decode cX2_wets 20 = .ok (.iconst 0, 1) := by decide +kernel
theorem dX2_wets_21 : decode cX2_wets 21 = .ok (.istore 4, 2) := by decide +kernel
theorem dX2_wets_23 : decode cX2_wets 23 = .ok (.iload 4, 2) := by decide +kernel
theorem dX2_wets_25 : decode cX2_wets 25 = .ok (.bipush 10, 2) := by decide +kernel
theorem dX2_wets_27 : decode cX2_wets 27 = .ok (.if_icmp .ge 117, 3) := by decide +kernel
theorem dX2_wets_30 : decode cX2_wets 30 = .ok (.iconst 2, 1) := by decide +kernel
theorem dX2_wets_31 : decode cX2_wets 31 = .ok (.iload 4, 2) := by decide +kernel
theorem dX2_wets_33 : decode cX2_wets 33 = .ok (.imul, 1) := by decide +kernel
theorem dX2_wets_34 : decode cX2_wets 34 = .ok (.iconst 1, 1) := by decide +kernel
theorem dX2_wets_35 : decode cX2_wets 35 = .ok (.iadd, 1) := by decide +kernel
theorem dX2_wets_36 : decode cX2_wets 36 = .ok (.istore 5, 2) := by decide +kernel
theorem dX2_wets_38 : decode cX2_wets 38 = .ok (.aload_n 0, 1) := by decide +kernel
theorem dX2_wets_39 : decode cX2_wets 39 = .ok (.getfield 16, 3) := by decide +kernel
theorem dX2_wets_42 : decode cX2_wets 42 = .ok (.bipush 10, 2) := by decide +kernel
theorem dX2_wets_44 : decode cX2_wets 44 = .ok (.iload_n 3, 1) := by decide +kernel
theorem dX2_wets_45 : decode cX2_wets 45 = .ok (.imul, 1) := by decide +kernel
theorem dX2_wets_46 : decode cX2_wets 46 = .ok (.iload 4, 2) := by decide +kernel
theorem dX2_wets_48 : decode cX2_wets 48 = .ok (.iadd, 1) := by decide +kernel
theorem dX2_wets_49 : decode cX2_wets 49 = .ok (.iaload, 1) := by decide +kernel
theorem dX2_wets_50 : decode cX2_wets 50 = .ok (.istore 6, 2) := by decide +kernel
theorem dX2_wets_52 : decode cX2_wets 52 = .ok (.iload 6, 2) := by decide +kernel
theorem dX2_wets_54 : decode cX2_wets 54 = .ok (.ineg, 1) := by decide +kernel
theorem dX2_wets_55 : decode cX2_wets 55 = .ok (.istore 7, 2) := by decide +kernel
theorem dX2_wets_57 : decode cX2_wets 57 = .ok (.iload 7, 2) := by decide +kernel
theorem dX2_wets_59 : decode cX2_wets 59 = .ok (.iload 6, 2) := by decide +kernel
theorem dX2_wets_61 : decode cX2_wets 61 = .ok (.if_icmp .ge 77, 3) := by decide +kernel
theorem dX2_wets_64 : decode cX2_wets 64 = .ok (.bipush 100, 2) := by decide +kernel
theorem dX2_wets_66 : decode cX2_wets 66 = .ok (.iload 5, 2) := by decide +kernel
theorem dX2_wets_68 : decode cX2_wets 68 = .ok (.imul, 1) := by decide +kernel
theorem dX2_wets_69 : decode cX2_wets 69 = .ok (.iload_n 2, 1) := by decide +kernel
theorem dX2_wets_70 : decode cX2_wets 70 = .ok (.iload_n 1, 1) := by decide +kernel
theorem dX2_wets_71 : decode cX2_wets 71 = .ok (.iconst 2, 1) := by decide +kernel
theorem dX2_wets_72 : decode cX2_wets 72 = .ok (.iload 7, 2) := by decide +kernel
theorem dX2_wets_74 : decode cX2_wets 74 = .ok (.imul, 1) := by decide +kernel
theorem dX2_wets_75 : decode cX2_wets 75 = .ok (.iconst 1, 1) := by decide +kernel
theorem dX2_wets_76 : decode cX2_wets 76 = .ok (.iadd, 1) := by decide +kernel
theorem dX2_wets_77 : decode cX2_wets 77 = .ok (.imul, 1) := by decide +kernel
theorem dX2_wets_78 : decode cX2_wets 78 = .ok (.iadd, 1) := by decide +kernel
theorem dX2_wets_79 : decode cX2_wets 79 = .ok (.if_icmp .le 6, 3) := by decide +kernel
theorem dX2_wets_82 : decode cX2_wets 82 = .ok (.goto 50, 3) := by decide +kernel
theorem dX2_wets_85 : decode cX2_wets 85 = .ok (.aload_n 0, 1) := by decide +kernel
theorem dX2_wets_86 : decode cX2_wets 86 = .ok (.dup, 1) := by decide +kernel
theorem dX2_wets_87 : decode cX2_wets 87 = .ok (.getfield 194, 3) := by decide +kernel
theorem dX2_wets_90 : decode cX2_wets 90 = .ok (.aload_n 0, 1) := by decide +kernel
theorem dX2_wets_91 : decode cX2_wets 91 = .ok (.getfield 13, 3) := by decide +kernel
theorem dX2_wets_94 : decode cX2_wets 94 = .ok (.iload_n 3, 1) := by decide +kernel
theorem dX2_wets_95 : decode cX2_wets 95 = .ok (.iaload, 1) := by decide +kernel
theorem dX2_wets_96 : decode cX2_wets 96 = .ok (.iadd, 1) := by decide +kernel
theorem dX2_wets_97 : decode cX2_wets 97 = .ok (.putfield 194, 3) := by decide +kernel
theorem dX2_wets_100 : decode cX2_wets 100 = .ok (.aload_n 0, 1) := by decide +kernel
theorem dX2_wets_101 : decode cX2_wets 101 = .ok (.dup, 1) := by decide +kernel
theorem dX2_wets_102 : decode cX2_wets 102 = .ok (.getfield 197, 3) := by decide +kernel
theorem dX2_wets_105 : decode cX2_wets 105 = .ok (.aload_n 0, 1) := by decide +kernel
theorem dX2_wets_106 : decode cX2_wets 106 = .ok (.getfield 13, 3) := by decide +kernel
theorem dX2_wets_109 : decode cX2_wets 109 = .ok (.iload_n 3, 1) := by decide +kernel
theorem dX2_wets_110 : decode cX2_wets 110 = .ok (.iaload, 1) := by decide +kernel
theorem dX2_wets_111 : decode cX2_wets 111 = .ok (.i2l, 1) := by decide +kernel
theorem dX2_wets_112 : decode cX2_wets 112 = .ok (.bipush 100, 2) := by decide +kernel
theorem dX2_wets_114 : decode cX2_wets 114 = .ok (.iconst 2, 1) := by decide +kernel
theorem dX2_wets_115 : decode cX2_wets 115 = .ok (.iload 7, 2) := by decide +kernel
theorem dX2_wets_117 : decode cX2_wets 117 = .ok (.imul, 1) := by decide +kernel
theorem dX2_wets_118 : decode cX2_wets 118 = .ok (.iconst 1, 1) := by decide +kernel
theorem dX2_wets_119 : decode cX2_wets 119 = .ok (.iadd, 1) := by decide +kernel
theorem dX2_wets_120 : decode cX2_wets 120 = .ok (.imul, 1) := by decide +kernel
theorem dX2_wets_121 : decode cX2_wets 121 = .ok (.iload_n 1, 1) := by decide +kernel
theorem dX2_wets_122 : decode cX2_wets 122 = .ok (.iload 5, 2) := by decide +kernel
theorem dX2_wets_124 : decode cX2_wets 124 = .ok (.imul, 1) := by decide +kernel
theorem dX2_wets_125 : decode cX2_wets 125 = .ok (.iadd, 1) := by decide +kernel
theorem dX2_wets_126 : decode cX2_wets 126 = .ok (.i2l, 1) := by decide +kernel
theorem dX2_wets_127 : decode cX2_wets 127 = .ok (.lmul, 1) := by decide +kernel
theorem dX2_wets_128 : decode cX2_wets 128 = .ok (.ladd, 1) := by decide +kernel
theorem dX2_wets_129 : decode cX2_wets 129 = .ok (.putfield 197, 3) := by decide +kernel
theorem dX2_wets_132 : decode cX2_wets 132 = .ok (.iinc 7 1, 3) := by decide +kernel
theorem dX2_wets_135 : decode cX2_wets 135 = .ok (.goto (-78), 3) := by decide +kernel
theorem dX2_wets_138 : decode cX2_wets 138 = .ok (.iinc 4 1, 3) := by decide +kernel
theorem dX2_wets_141 : decode cX2_wets 141 = .ok (.goto (-118), 3) := by decide +kernel
theorem dX2_wets_144 : decode cX2_wets 144 = .ok (.iinc 3 1, 3) := by decide +kernel
theorem dX2_wets_147 : decode cX2_wets 147 = .ok (.goto (-135), 3) := by decide +kernel
theorem dX2_wets_150 : decode cX2_wets 150 = .ok (.return_, 1) := by decide +kernel
set_option maxHeartbeats 4000000 in
theorem met_wets (l : Launch) (D : va_G) (E : Nat → ClassId) (A : Nat → Prop) (h : Nat) (ad : Nat → Nat) (I : Nat → Int) (F : Nat → Int → Int) (sl lv : Int) (hs : -80 ≤ sl ∧ sl ≤ 80) (hlv : -2000 ≤ lv ∧ lv ≤ 4000) (gl : gHull I F) : MM l yX2_wets cX2_wets 8 none (mrm 0) D E A h ad [.int (iI sl), .int (iI lv)] I F (MQv D E A h ad (fun I1 F1 => va_up (va_up I 66 (pushS (I 1) (F 2) (F 3) sl lv)) 67 (upS (I 1) (F 2) (F 3) sl lv) = I1 ∧ F = F1)) := by
  refine m_start (by decide) rfl (Nat.le_of_ble_eq_true rfl) ?_
  intro p e R s m args below meth c ls Q hR hQ hC hml hr hlk hM hS hl
  have hx := hC.1
  have hb := hC.2.1
  have hown := hC.2.2.1
  have hts := hC.2.2.2.1
  have hl : lv_has ls 8 [(0, .ref h), (1, .int (iI sl)), (2, .int (iI lv))] := hl
  obtain ⟨i1, a2, a3⟩ := gl
  refine lv_aload_n hx hb dX2_wets_0 rfl (lv_at hl 0 rfl) ?_
  refine r_iconst hx hb dX2_wets_1 ?_
  refine mp_66 hC hM hS dX2_wets_2 (fun H locs hM hS => ?_)
  refine lv_aload_n hx hb dX2_wets_5 rfl (lv_at hl 0 rfl) ?_
  refine r_lconst hx hb 0 dX2_wets_6 (by decide) ?_
  refine mp_67 hC hM hS dX2_wets_7 (fun H locs hM hS => ?_)
  refine r_iconst hx hb dX2_wets_10 ?_
  refine lv_istore_n (lv' := [(3, .int (iI 0)), (0, .ref h), (1, .int (iI sl)), (2, .int (iI lv))]) hx hb dX2_wets_11 rfl hl (by decide) rfl (fun ls hl => ?_)
  have loop12_1 : ∀ (n : Nat) (k : Int) (I1 : Nat → Int), I 1 - k < (n : Int) → 0 ≤ k → k ≤ I 1 → I1 = va_up (va_up I 66 (pushS k (F 2) (F 3) sl lv)) 67 (upS k (F 2) (F 3) sl lv) → ∀ (H : Heap) (locs : List Loc) (ls : Array Slot), MW D E A h ad I1 F H → va_S A s.heap H locs → lv_has ls 8 [(3, .int (iI k)), (0, .ref h), (1, .int (iI sl)), (2, .int (iI lv))] → W p l e R s m args below meth c H locs 0 0 Q (F0 m 12 ls []) := by
    intro n
    induction n with
    | zero => intro k I1 hn3 hk0 hk1 eI; exfalso; omega
    | succ n ih2 =>
      intro k I1 hn3 hk0 hk1 eI H locs ls hM hS hl
      subst eI
      refine lv_iload_n hx hb dX2_wets_12 rfl (lv_at hl 0 rfl) ?_
      refine lv_aload_n hx hb dX2_wets_13 rfl (lv_at hl 1 rfl) ?_
      refine mg_1 (v := I 1) hC hM rfl dX2_wets_14 ?_
      refine r_icmp_ge (tgt := 150) hx hb dX2_wets_17 (by decide) (by omega) (by omega) (fun c4 => ?_) (fun c4 => ?_)
      · have ek : k = I 1 := by omega
        exact m_vret hC hQ hr hlk hM hS dX2_wets_150 (⟨by rw [ek], rfl⟩)
      · have b2 := a2 k (by omega) (by omega)
        refine r_iconst hx hb dX2_wets_20 ?_
        refine lv_istore (lv' := [(4, .int (iI 0)), (3, .int (iI k)), (0, .ref h), (1, .int (iI sl)), (2, .int (iI lv))]) hx hb dX2_wets_21 hl (by decide) rfl (fun ls hl => ?_)
        have loop23_5 : ∀ (n : Nat) (z : Int) (I2 : Nat → Int), 10 - z < (n : Int) → 0 ≤ z → z ≤ 10 → I2 = va_up (va_up I 66 (pushS k (F 2) (F 3) sl lv + sm (rowC (F 2) (F 3) sl lv k) z)) 67 (upS k (F 2) (F 3) sl lv + sm (rowU (F 2) (F 3) sl lv k) z) → ∀ (H : Heap) (locs : List Loc) (ls : Array Slot), MW D E A h ad I2 F H → va_S A s.heap H locs → lv_has ls 8 [(4, .int (iI z)), (3, .int (iI k)), (0, .ref h), (1, .int (iI sl)), (2, .int (iI lv))] → W p l e R s m args below meth c H locs 0 0 Q (F0 m 23 ls []) := by
          intro n
          induction n with
          | zero => intro z I2 hn7 hz0 hz1 eI2; exfalso; omega
          | succ n ih6 =>
            intro z I2 hn7 hz0 hz1 eI2 H locs ls hM hS hl
            subst eI2
            refine lv_iload hx hb dX2_wets_23 (lv_at hl 0 rfl) ?_
            refine r_bipush hx hb dX2_wets_25 (by decide) ?_
            refine r_icmp_ge (tgt := 144) hx hb dX2_wets_27 (by decide) (by omega) (by decide) (fun c8 => ?_) (fun c8 => ?_)
            · have ez : z = 10 := by omega
              refine lv_iinc (v := iI (k + 1)) (lv' := [(3, .int (iI (k + 1))), (4, .int (iI z)), (0, .ref h), (1, .int (iI sl)), (2, .int (iI lv))]) hx hb dX2_wets_144 hl (k := 1) rfl (iI_add _ _) (by decide) rfl (fun ls hl => ?_)
              refine lv_goto (tgt := 12) hx hb dX2_wets_147 (by decide) ?_
              exact ih2 (k + 1) (va_up (va_up I 66 (pushS k (F 2) (F 3) sl lv + sm (rowC (F 2) (F 3) sl lv k) z)) 67 (upS k (F 2) (F 3) sl lv + sm (rowU (F 2) (F 3) sl lv k) z)) (by omega) (by omega) (by omega) (by rw [pushS_s hk0, upS_s hk0, ez]) _ _ _ hM hS (lv_sub hl [0, 2, 3, 4] rfl)
            · have b3 := a3 (10 * k + z) (by omega) (by omega)
              have hzb := mul_bd (A := 80) (B := 19) (a := sl) (b := 2 * z + 1) (by omega) (by omega)
              refine r_iconst hx hb dX2_wets_30 ?_
              refine lv_iload hx hb dX2_wets_31 (lv_at hl 0 rfl) ?_
              refine r_imul hx hb dX2_wets_33 ?_
              refine r_iconst hx hb dX2_wets_34 ?_
              refine r_iadd hx hb dX2_wets_35 ?_
              refine lv_istore (lv' := [(5, .int (iI ((2 * z) + 1))), (4, .int (iI z)), (3, .int (iI k)), (0, .ref h), (1, .int (iI sl)), (2, .int (iI lv))]) hx hb dX2_wets_36 hl (by decide) rfl (fun ls hl => ?_)
              refine lv_aload_n hx hb dX2_wets_38 rfl (lv_at hl 3 rfl) ?_
              refine mg_3 hC hM dX2_wets_39 ?_
              refine r_bipush hx hb dX2_wets_42 (by decide) ?_
              refine lv_iload_n hx hb dX2_wets_44 rfl (lv_at hl 2 rfl) ?_
              refine r_imul hx hb dX2_wets_45 ?_
              refine lv_iload hx hb dX2_wets_46 (lv_at hl 1 rfl) ?_
              refine r_iadd hx hb dX2_wets_48 ?_
              refine ml_3 (v := F 3 ((10 * k) + z)) hC hM (by omega) rfl dX2_wets_49 ?_
              refine lv_istore (lv' := [(6, .int (iI (F 3 ((10 * k) + z)))), (5, .int (iI ((2 * z) + 1))), (4, .int (iI z)), (3, .int (iI k)), (0, .ref h), (1, .int (iI sl)), (2, .int (iI lv))]) hx hb dX2_wets_50 hl (by decide) rfl (fun ls hl => ?_)
              refine lv_iload hx hb dX2_wets_52 (lv_at hl 0 rfl) ?_
              refine r_ineg hx hb dX2_wets_54 ?_
              refine lv_istore (lv' := [(7, .int (iI (-(F 3 ((10 * k) + z))))), (6, .int (iI (F 3 ((10 * k) + z)))), (5, .int (iI ((2 * z) + 1))), (4, .int (iI z)), (3, .int (iI k)), (0, .ref h), (1, .int (iI sl)), (2, .int (iI lv))]) hx hb dX2_wets_55 hl (by decide) rfl (fun ls hl => ?_)
              have loop57_9 : ∀ (n : Nat) (x : Int) (I3 : Nat → Int), F 3 (10 * k + z) - x < (n : Int) → -(F 3 (10 * k + z)) ≤ x → x ≤ F 3 (10 * k + z) → I3 = va_up (va_up I 66 (wA F sl lv k z x)) 67 (wB F sl lv k z x) → ∀ (H : Heap) (locs : List Loc) (ls : Array Slot), MW D E A h ad I3 F H → va_S A s.heap H locs → lv_has ls 8 [(7, .int (iI x)), (6, .int (iI (F 3 ((10 * k) + z)))), (5, .int (iI ((2 * z) + 1))), (4, .int (iI z)), (3, .int (iI k)), (0, .ref h), (1, .int (iI sl)), (2, .int (iI lv))] → W p l e R s m args below meth c H locs 0 0 Q (F0 m 57 ls []) := by
                intro n
                induction n with
                | zero => intro x I3 hn11 hx0 hx1 eI3; exfalso; omega
                | succ n ih10 =>
                  intro x I3 hn11 hx0 hx1 eI3 H locs ls hM hS hl
                  subst eI3
                  have hxb := mul_bd (A := 80) (B := 19) (a := sl) (b := 2 * x + 1) (by omega) (by omega)
                  refine lv_iload hx hb dX2_wets_57 (lv_at hl 0 rfl) ?_
                  refine lv_iload hx hb dX2_wets_59 (lv_at hl 1 rfl) ?_
                  refine r_icmp_ge (tgt := 138) hx hb dX2_wets_61 (by decide) (by omega) (by omega) (fun c12 => ?_) (fun c12 => ?_)
                  · have exx : x = F 3 (10 * k + z) := by omega
                    refine lv_iinc (v := iI (z + 1)) (lv' := [(4, .int (iI (z + 1))), (7, .int (iI x)), (6, .int (iI (F 3 ((10 * k) + z)))), (5, .int (iI ((2 * z) + 1))), (3, .int (iI k)), (0, .ref h), (1, .int (iI sl)), (2, .int (iI lv))]) hx hb dX2_wets_138 hl (k := 3) rfl (iI_add _ _) (by decide) rfl (fun ls hl => ?_)
                    refine lv_goto (tgt := 23) hx hb dX2_wets_141 (by decide) ?_
                    exact ih6 (z + 1) (va_up (va_up I 66 (wA F sl lv k z x)) 67 (wB F sl lv k z x)) (by omega) (by omega) (by omega) (by rw [exx, wA_e F sl lv k hz0, wB_e F sl lv k hz0]) _ _ _ hM hS (lv_sub hl [0, 4, 5, 6, 7] rfl)
                  · refine r_bipush hx hb dX2_wets_64 (by decide) ?_
                    refine lv_iload hx hb dX2_wets_66 (lv_at hl 2 rfl) ?_
                    refine r_imul hx hb dX2_wets_68 ?_
                    refine lv_iload_n hx hb dX2_wets_69 rfl (lv_at hl 7 rfl) ?_
                    refine lv_iload_n hx hb dX2_wets_70 rfl (lv_at hl 6 rfl) ?_
                    refine r_iconst hx hb dX2_wets_71 ?_
                    refine lv_iload hx hb dX2_wets_72 (lv_at hl 0 rfl) ?_
                    refine r_imul hx hb dX2_wets_74 ?_
                    refine r_iconst hx hb dX2_wets_75 ?_
                    refine r_iadd hx hb dX2_wets_76 ?_
                    refine r_imul hx hb dX2_wets_77 ?_
                    refine r_iadd hx hb dX2_wets_78 ?_
                    refine r_icmp_le (tgt := 85) hx hb dX2_wets_79 (by decide) (by omega) (by omega) (fun cw => ?_) (fun cw => ?_)
                    · refine lv_aload_n hx hb dX2_wets_85 rfl (lv_at hl 5 rfl) ?_
                      refine lv_dup hx hb dX2_wets_86 rfl ?_
                      refine mg_66 (v := wA F sl lv k z x) hC hM rfl dX2_wets_87 ?_
                      refine lv_aload_n hx hb dX2_wets_90 rfl (lv_at hl 5 rfl) ?_
                      refine mg_2 hC hM dX2_wets_91 ?_
                      refine lv_iload_n hx hb dX2_wets_94 rfl (lv_at hl 4 rfl) ?_
                      refine ml_2 (v := F 2 k) hC hM (by omega) rfl dX2_wets_95 ?_
                      refine r_iadd hx hb dX2_wets_96 ?_
                      refine mp_66 hC hM hS dX2_wets_97 (fun H locs hM hS => ?_)
                      refine lv_aload_n hx hb dX2_wets_100 rfl (lv_at hl 5 rfl) ?_
                      refine lv_dup hx hb dX2_wets_101 rfl ?_
                      refine mg_67 (v := wB F sl lv k z x) hC hM rfl dX2_wets_102 ?_
                      refine lv_aload_n hx hb dX2_wets_105 rfl (lv_at hl 5 rfl) ?_
                      refine mg_2 hC hM dX2_wets_106 ?_
                      refine lv_iload_n hx hb dX2_wets_109 rfl (lv_at hl 4 rfl) ?_
                      refine ml_2 (v := F 2 k) hC hM (by omega) rfl dX2_wets_110 ?_
                      refine r_i2l hx hb dX2_wets_111 (by omega) ?_
                      refine r_bipush hx hb dX2_wets_112 (by decide) ?_
                      refine r_iconst hx hb dX2_wets_114 ?_
                      refine lv_iload hx hb dX2_wets_115 (lv_at hl 0 rfl) ?_
                      refine r_imul hx hb dX2_wets_117 ?_
                      refine r_iconst hx hb dX2_wets_118 ?_
                      refine r_iadd hx hb dX2_wets_119 ?_
                      refine r_imul hx hb dX2_wets_120 ?_
                      refine lv_iload_n hx hb dX2_wets_121 rfl (lv_at hl 6 rfl) ?_
                      refine lv_iload hx hb dX2_wets_122 (lv_at hl 2 rfl) ?_
                      refine r_imul hx hb dX2_wets_124 ?_
                      refine r_iadd hx hb dX2_wets_125 ?_
                      refine r_i2l hx hb dX2_wets_126 (by omega) ?_
                      refine r_lmul hx hb dX2_wets_127 ?_
                      refine r_ladd hx hb dX2_wets_128 ?_
                      refine mp_67 hC hM hS dX2_wets_129 (fun H locs hM hS => ?_)
                      refine lv_iinc (v := iI (x + 1)) (lv' := [(7, .int (iI (x + 1))), (6, .int (iI (F 3 ((10 * k) + z)))), (5, .int (iI ((2 * z) + 1))), (4, .int (iI z)), (3, .int (iI k)), (0, .ref h), (1, .int (iI sl)), (2, .int (iI lv))]) hx hb dX2_wets_132 hl (k := 0) rfl (iI_add _ _) (by decide) rfl (fun ls hl => ?_)
                      refine lv_goto (tgt := 57) hx hb dX2_wets_135 (by decide) ?_
                      exact ih10 (x + 1) (va_up (va_up (va_up (va_up I 66 (wA F sl lv k z x)) 67 (wB F sl lv k z x)) 66 ((wA F sl lv k z x) + (F 2 k))) 67 ((wB F sl lv k z x) + ((F 2 k) * ((100 * ((2 * x) + 1)) + (sl * ((2 * z) + 1)))))) (by omega) (by omega) (by omega) (by rw [up4, wA_y F (by omega) cw, wB_y F (by omega) cw]) _ _ _ hM hS (lv_sub hl [0, 1, 2, 3, 4, 5, 6, 7] rfl)
                    · refine lv_goto (tgt := 132) hx hb dX2_wets_82 (by decide) ?_
                      refine lv_iinc (v := iI (x + 1)) (lv' := [(7, .int (iI (x + 1))), (6, .int (iI (F 3 ((10 * k) + z)))), (5, .int (iI ((2 * z) + 1))), (4, .int (iI z)), (3, .int (iI k)), (0, .ref h), (1, .int (iI sl)), (2, .int (iI lv))]) hx hb dX2_wets_132 hl (k := 0) rfl (iI_add _ _) (by decide) rfl (fun ls hl => ?_)
                      refine lv_goto (tgt := 57) hx hb dX2_wets_135 (by decide) ?_
                      exact ih10 (x + 1) (va_up (va_up I 66 (wA F sl lv k z x)) 67 (wB F sl lv k z x)) (by omega) (by omega) (by omega) (by rw [wA_n F (by omega) (by omega), wB_n F (by omega) (by omega)]) _ _ _ hM hS (lv_sub hl [0, 1, 2, 3, 4, 5, 6, 7] rfl)
              exact loop57_9 ((F 3 (10 * k + z) - (-(F 3 ((10 * k) + z))) : Int).toNat + 1) (-(F 3 ((10 * k) + z))) (va_up (va_up I 66 (pushS k (F 2) (F 3) sl lv + sm (rowC (F 2) (F 3) sl lv k) z)) 67 (upS k (F 2) (F 3) sl lv + sm (rowU (F 2) (F 3) sl lv k) z)) (by omega) (by omega) (by omega) (by rw [wA_0, wB_0]) _ _ _ hM hS (lv_sub hl [0, 1, 2, 3, 4, 5, 6, 7] rfl)
        exact loop23_5 ((10 - 0 : Int).toNat + 1) 0 (va_up (va_up I 66 (pushS k (F 2) (F 3) sl lv)) 67 (upS k (F 2) (F 3) sl lv)) (by omega) (by omega) (by omega) (by rw [sm_0, sm_0, Int.add_zero, Int.add_zero]) _ _ _ hM hS (lv_sub hl [0, 1, 2, 3, 4] rfl)
  exact loop12_1 ((I 1 - 0 : Int).toNat + 1) 0 (va_up (va_up I 66 0) 67 0) (by omega) (by omega) (by omega) rfl _ _ _ hM hS (lv_sub hl [0, 1, 2, 3] rfl)
theorem dX2_levelAt_0 : decode cX2_levelAt 0 = .ok (.aload_n 0, 1) := by decide +kernel
theorem dX2_levelAt_1 : decode cX2_levelAt 1 = .ok (.invokevirtual 201, 3) := by decide +kernel
theorem dX2_levelAt_4 : decode cX2_levelAt 4 = .ok (.istore_n 2, 1) := by decide +kernel
theorem dX2_levelAt_5 : decode cX2_levelAt 5 = .ok (.iload_n 2, 1) := by decide +kernel
theorem dX2_levelAt_6 : decode cX2_levelAt 6 = .ok (.ifCond .ne 6, 3) := by decide +kernel
theorem dX2_levelAt_9 : decode cX2_levelAt 9 = .ok (.ldc 205, 2) := by decide +kernel
theorem dX2_levelAt_11 : decode cX2_levelAt 11 = .ok (.ireturn, 1) := by decide +kernel
theorem dX2_levelAt_12 : decode cX2_levelAt 12 = .ok (.sipush (-2000), 3) := by decide +kernel
theorem dX2_levelAt_15 : decode cX2_levelAt 15 = .ok (.istore_n 3, 1) := by decide +kernel
theorem dX2_levelAt_16 : decode cX2_levelAt 16 = .ok (.sipush 4000, 3) := by decide +kernel
theorem dX2_levelAt_19 : decode cX2_levelAt 19 = .ok (.istore 4, 2) := by decide +kernel
theorem dX2_levelAt_21 : decode cX2_levelAt 21 = .ok (.aload_n 0, 1) := by decide +kernel
theorem dX2_levelAt_22 : decode cX2_levelAt 22 = .ok (.iload_n 1, 1) := by decide +kernel
theorem dX2_levelAt_23 : decode cX2_levelAt 23 = .ok (.iload 4, 2) := by decide +kernel
theorem dX2_levelAt_25 : decode cX2_levelAt 25 = .ok (.invokevirtual 206, 3) := by decide +kernel
theorem dX2_levelAt_28 : decode cX2_levelAt 28 = .ok (.aload_n 0, 1) := by decide +kernel
theorem dX2_levelAt_29 : decode cX2_levelAt 29 = .ok (.getfield 194, 3) := by decide +kernel
theorem dX2_levelAt_32 : decode cX2_levelAt 32 = .ok (.iload_n 2, 1) := by decide +kernel
theorem dX2_levelAt_33 : decode cX2_levelAt 33 = .ok (.if_icmp .ge 6, 3) := by decide +kernel
theorem dX2_levelAt_36 : decode cX2_levelAt 36 = .ok (.ldc 205, 2) := by decide +kernel
theorem dX2_levelAt_38 : decode cX2_levelAt 38 = .ok (.ireturn, 1) := by decide +kernel
theorem dX2_levelAt_39 : decode cX2_levelAt 39 = .ok (.iload_n 3, 1) := by decide +kernel
theorem dX2_levelAt_40 : decode cX2_levelAt 40 = .ok (.iload 4, 2) := by decide +kernel
theorem dX2_levelAt_42 : decode cX2_levelAt 42 = .ok (.if_icmp .ge 43, 3) := by decide +kernel
theorem dX2_levelAt_45 : decode cX2_levelAt 45 = .ok (.iload_n 3, 1) := by decide +kernel
theorem dX2_levelAt_46 : decode cX2_levelAt 46 = .ok (.iload 4, 2) := by decide +kernel
theorem dX2_levelAt_48 : decode cX2_levelAt 48 = .ok (.iload_n 3, 1) := by decide +kernel
theorem dX2_levelAt_49 : decode cX2_levelAt 49 = .ok (.isub, 1) := by decide +kernel
theorem dX2_levelAt_50 : decode cX2_levelAt 50 = .ok (.iconst 2, 1) := by decide +kernel
theorem dX2_levelAt_51 : decode cX2_levelAt 51 = .ok (.idiv, 1) := by decide +kernel
theorem dX2_levelAt_52 : decode cX2_levelAt 52 = .ok (.iadd, 1) := by decide +kernel
theorem dX2_levelAt_53 : decode cX2_levelAt 53 = .ok (.istore 5, 2) := by decide +kernel
theorem dX2_levelAt_55 : decode cX2_levelAt 55 = .ok (.aload_n 0, 1) := by decide +kernel
theorem dX2_levelAt_56 : decode cX2_levelAt 56 = .ok (.iload_n 1, 1) := by decide +kernel
theorem dX2_levelAt_57 : decode cX2_levelAt 57 = .ok (.iload 5, 2) := by decide +kernel
theorem dX2_levelAt_59 : decode cX2_levelAt 59 = .ok (.invokevirtual 206, 3) := by decide +kernel
theorem dX2_levelAt_62 : decode cX2_levelAt 62 = .ok (.aload_n 0, 1) := by decide +kernel
theorem dX2_levelAt_63 : decode cX2_levelAt 63 = .ok (.getfield 194, 3) := by decide +kernel
theorem dX2_levelAt_66 : decode cX2_levelAt 66 = .ok (.iload_n 2, 1) := by decide +kernel
theorem dX2_levelAt_67 : decode cX2_levelAt 67 = .ok (.if_icmp .lt 10, 3) := by decide +kernel
theorem dX2_levelAt_70 : decode cX2_levelAt 70 = .ok (.iload 5, 2) := by decide +kernel
theorem dX2_levelAt_72 : decode cX2_levelAt 72 = .ok (.istore 4, 2) := by decide +kernel
theorem dX2_levelAt_74 : decode cX2_levelAt 74 = .ok (.goto 8, 3) := by decide +kernel
theorem dX2_levelAt_77 : decode cX2_levelAt 77 = .ok (.iload 5, 2) := by decide +kernel
theorem dX2_levelAt_79 : decode cX2_levelAt 79 = .ok (.iconst 1, 1) := by decide +kernel
theorem dX2_levelAt_80 : decode cX2_levelAt 80 = .ok (.iadd, 1) := by decide +kernel
theorem dX2_levelAt_81 : decode cX2_levelAt 81 = .ok (.istore_n 3, 1) := by decide +kernel
theorem dX2_levelAt_82 : decode cX2_levelAt 82 = .ok (.goto (-43), 3) := by decide +kernel
theorem dX2_levelAt_85 : decode cX2_levelAt 85 = .ok (.aload_n 0, 1) := by decide +kernel
theorem dX2_levelAt_86 : decode cX2_levelAt 86 = .ok (.iload_n 1, 1) := by decide +kernel
theorem dX2_levelAt_87 : decode cX2_levelAt 87 = .ok (.iload_n 3, 1) := by decide +kernel
theorem dX2_levelAt_88 : decode cX2_levelAt 88 = .ok (.invokevirtual 206, 3) := by decide +kernel
theorem dX2_levelAt_91 : decode cX2_levelAt 91 = .ok (.iload_n 3, 1) := by decide +kernel
theorem dX2_levelAt_92 : decode cX2_levelAt 92 = .ok (.ireturn, 1) := by decide +kernel
set_option maxHeartbeats 4000000 in
theorem met_levelAt (l : Launch) (D : va_G) (E : Nat → ClassId) (A : Nat → Prop) (h : Nat) (ad : Nat → Nat) (I : Nat → Int) (F : Nat → Int → Int) (sl : Int) (hs : -80 ≤ sl ∧ sl ≤ 80) (gh0 : gHull I F) (gl0 : gLoad I F) : MM l yX2_levelAt cX2_levelAt 6 (some .int) (mrm 1) D E A h ad [.int (iI sl)] I F (MQi D E A h ad (fun z I1 F1 => lvF (I 1) (F 2) (F 3) (heavyS (I 4) (F 9) (F 5) (I 10) (F 14)) sl = z ∧ (∃ a b, va_up (va_up I 66 a) 67 b = I1 ∧ (lvF (I 1) (F 2) (F 3) (heavyS (I 4) (F 9) (F 5) (I 10) (F 14)) sl ≠ -2147483648 → a = pushS (I 1) (F 2) (F 3) sl (lvF (I 1) (F 2) (F 3) (heavyS (I 4) (F 9) (F 5) (I 10) (F 14)) sl) ∧ b = upS (I 1) (F 2) (F 3) sl (lvF (I 1) (F 2) (F 3) (heavyS (I 4) (F 9) (F 5) (I 10) (F 14)) sl))) ∧ F = F1)) := by
  refine m_start (by decide) rfl (Nat.le_of_ble_eq_true rfl) ?_
  intro p e R s m args below meth c ls Q hR hQ hC hml hr hlk hM hS hl
  have hx := hC.1
  have hb := hC.2.1
  have hown := hC.2.2.1
  have hts := hC.2.2.2.1
  have hl : lv_has ls 6 [(0, .ref h), (1, .int (iI sl))] := hl
  obtain ⟨i1, a2, a3⟩ := id gh0
  obtain ⟨i4, a5, a6, a7, a8, a9, i10, a11, a12, a13, a14, a14h⟩ := id gl0
  have hhv := heavyS_bd (lost := F 9) i4 i10 a5 a14
  have hpb : ∀ y, 0 ≤ pushS (I 1) (F 2) (F 3) sl y ∧ pushS (I 1) (F 2) (F 3) sl y ≤ 21600 := fun y => pushS_bd sl y i1 a2 a3
  refine lv_aload_n hx hb dX2_levelAt_0 rfl (lv_at hl 0 rfl) ?_
  refine m_calli (kX2_heavy (rest := []) (as := []) hC hml (met_heavy l D E A h ad I F gl0) ⟨rfl, rfl⟩ hR (by decide) hM rfl hl.1 rfl (Nat.le_of_ble_eq_true rfl) dX2_levelAt_1) hS (fun z1 I2 F3 H locs hp4 hM hS => ?_)
  obtain ⟨rfl, rfl, rfl⟩ := hp4
  refine lv_istore_n (lv' := [(2, .int (iI (heavyS (I 4) (F 9) (F 5) (I 10) (F 14)))), (0, .ref h), (1, .int (iI sl))]) hx hb dX2_levelAt_4 rfl hl (by decide) rfl (fun ls hl => ?_)
  refine lv_iload_n hx hb dX2_levelAt_5 rfl (lv_at hl 0 rfl) ?_
  refine r_if_ne (tgt := 12) hx hb dX2_levelAt_6 (by decide) (by omega) (fun cv => ?_) (fun cv => ?_)
  · refine r_sipush hx hb dX2_levelAt_12 (by decide) ?_
    refine lv_istore_n (lv' := [(3, .int (iI (-2000))), (2, .int (iI (heavyS (I 4) (F 9) (F 5) (I 10) (F 14)))), (0, .ref h), (1, .int (iI sl))]) hx hb dX2_levelAt_15 rfl hl (by decide) rfl (fun ls hl => ?_)
    refine r_sipush hx hb dX2_levelAt_16 (by decide) ?_
    refine lv_istore (lv' := [(4, .int (iI 4000)), (3, .int (iI (-2000))), (2, .int (iI (heavyS (I 4) (F 9) (F 5) (I 10) (F 14)))), (0, .ref h), (1, .int (iI sl))]) hx hb dX2_levelAt_19 hl (by decide) rfl (fun ls hl => ?_)
    refine lv_aload_n hx hb dX2_levelAt_21 rfl (lv_at hl 3 rfl) ?_
    refine lv_iload_n hx hb dX2_levelAt_22 rfl (lv_at hl 4 rfl) ?_
    refine lv_iload hx hb dX2_levelAt_23 (lv_at hl 0 rfl) ?_
    refine m_callv (kX2_wets (rest := []) (as := [.int (iI sl), .int (iI 4000)]) hC hml (met_wets l D E A h ad I F sl 4000 hs (by omega) gh0) ⟨rfl, rfl⟩ hR (by decide) hM rfl hl.1 rfl (Nat.le_of_ble_eq_true rfl) dX2_levelAt_25) hS (fun I6 F7 H locs hp8 hM hS => ?_)
    obtain ⟨rfl, rfl⟩ := hp8
    refine lv_aload_n hx hb dX2_levelAt_28 rfl (lv_at hl 3 rfl) ?_
    have hp4 := hpb 4000
    refine mg_66 (v := pushS (I 1) (F 2) (F 3) sl 4000) hC hM rfl dX2_levelAt_29 ?_
    refine lv_iload_n hx hb dX2_levelAt_32 rfl (lv_at hl 2 rfl) ?_
    refine r_icmp_ge (tgt := 39) hx hb dX2_levelAt_33 (by decide) (by omega) (by omega) (fun cp => ?_) (fun cp => ?_)
    · have hlvf : lvF (I 1) (F 2) (F 3) (heavyS (I 4) (F 9) (F 5) (I 10) (F 14)) sl = bis (pushS (I 1) (F 2) (F 3) sl) (heavyS (I 4) (F 9) (F 5) (I 10) (F 14)) 6000 (-2000) 4000 := by unfold lvF levelS; rw [if_neg (by omega)]
      have loop39_9 : ∀ (n : Nat) (a b : Int) (I1 : Nat → Int), b - a < (n : Int) → -2000 ≤ a → a ≤ b → b ≤ 4000 → (∃ ga gb, I1 = va_up (va_up I 66 ga) 67 gb) → (∃ fu : Nat, bis (pushS (I 1) (F 2) (F 3) sl) (heavyS (I 4) (F 9) (F 5) (I 10) (F 14)) fu a b = bis (pushS (I 1) (F 2) (F 3) sl) (heavyS (I 4) (F 9) (F 5) (I 10) (F 14)) 6000 (-2000) 4000 ∧ b - a ≤ fu) → ∀ (H : Heap) (locs : List Loc) (ls : Array Slot), MW D E A h ad I1 F H → va_S A s.heap H locs → lv_has ls 6 [(4, .int (iI b)), (3, .int (iI a)), (2, .int (iI (heavyS (I 4) (F 9) (F 5) (I 10) (F 14)))), (0, .ref h), (1, .int (iI sl))] → W p l e R s m args below meth c H locs 0 0 Q (F0 m 39 ls []) := by
        intro n
        induction n with
        | zero => intro a b I1 hn11 ha hab hb4 eI ebi; exfalso; omega
        | succ n ih10 =>
          intro a b I1 hn11 ha hab hb4 eI ebi H locs ls hM hS hl
          obtain ⟨ga, gb, rfl⟩ := eI
          obtain ⟨fu, efu, hfu⟩ := ebi
          refine lv_iload_n hx hb dX2_levelAt_39 rfl (lv_at hl 1 rfl) ?_
          refine lv_iload hx hb dX2_levelAt_40 (lv_at hl 0 rfl) ?_
          refine r_icmp_ge (tgt := 85) hx hb dX2_levelAt_42 (by decide) (by omega) (by omega) (fun cab => ?_) (fun cab => ?_)
          · have eab : lvF (I 1) (F 2) (F 3) (heavyS (I 4) (F 9) (F 5) (I 10) (F 14)) sl = a := by rw [hlvf, ← efu, bis_eq (by omega)]
            refine lv_aload_n hx hb dX2_levelAt_85 rfl (lv_at hl 3 rfl) ?_
            refine lv_iload_n hx hb dX2_levelAt_86 rfl (lv_at hl 4 rfl) ?_
            refine lv_iload_n hx hb dX2_levelAt_87 rfl (lv_at hl 1 rfl) ?_
            refine m_callv (kX2_wets (rest := []) (as := [.int (iI sl), .int (iI a)]) hC hml (met_wets l D E A h ad (va_up (va_up I 66 ga) 67 gb) F sl a hs (by omega) gh0) ⟨rfl, rfl⟩ hR (by decide) hM rfl hl.1 rfl (Nat.le_of_ble_eq_true rfl) dX2_levelAt_88) hS (fun I13 F14 H locs hp15 hM hS => ?_)
            obtain ⟨rfl, rfl⟩ := hp15
            refine lv_iload_n hx hb dX2_levelAt_91 rfl (lv_at hl 1 rfl) ?_
            exact m_iret hC hQ hr hlk hM hS dX2_levelAt_92 (⟨eab, ⟨_, _, (up4 I ga gb _ _).symm, fun _ => by rw [eab]; exact ⟨rfl, rfl⟩⟩, rfl⟩)
          · have em : a + (b - a).tdiv 2 = (a + b) / 2 := by rw [Int.tdiv_eq_ediv_of_nonneg (by omega)]; omega
            refine lv_iload_n hx hb dX2_levelAt_45 rfl (lv_at hl 1 rfl) ?_
            refine lv_iload hx hb dX2_levelAt_46 (lv_at hl 0 rfl) ?_
            refine lv_iload_n hx hb dX2_levelAt_48 rfl (lv_at hl 1 rfl) ?_
            refine r_isub hx hb dX2_levelAt_49 ?_
            refine r_iconst hx hb dX2_levelAt_50 ?_
            refine r_idiv hx hb dX2_levelAt_51 (by omega) (by decide) (by decide) ?_
            refine r_iadd hx hb dX2_levelAt_52 ?_
            rw [em]
            refine lv_istore (lv' := [(5, .int (iI ((a + b) / 2))), (4, .int (iI b)), (3, .int (iI a)), (2, .int (iI (heavyS (I 4) (F 9) (F 5) (I 10) (F 14)))), (0, .ref h), (1, .int (iI sl))]) hx hb dX2_levelAt_53 hl (by decide) rfl (fun ls hl => ?_)
            refine lv_aload_n hx hb dX2_levelAt_55 rfl (lv_at hl 4 rfl) ?_
            refine lv_iload_n hx hb dX2_levelAt_56 rfl (lv_at hl 5 rfl) ?_
            refine lv_iload hx hb dX2_levelAt_57 (lv_at hl 0 rfl) ?_
            refine m_callv (kX2_wets (rest := []) (as := [.int (iI sl), .int (iI ((a + b) / 2))]) hC hml (met_wets l D E A h ad (va_up (va_up I 66 ga) 67 gb) F sl ((a + b) / 2) hs (by omega) gh0) ⟨rfl, rfl⟩ hR (by decide) hM rfl hl.1 rfl (Nat.le_of_ble_eq_true rfl) dX2_levelAt_59) hS (fun I17 F18 H locs hp19 hM hS => ?_)
            obtain ⟨rfl, rfl⟩ := hp19
            refine lv_aload_n hx hb dX2_levelAt_62 rfl (lv_at hl 4 rfl) ?_
            have hpm := hpb ((a + b) / 2)
            refine mg_66 (v := pushS (I 1) (F 2) (F 3) sl ((a + b) / 2)) hC hM rfl dX2_levelAt_63 ?_
            refine lv_iload_n hx hb dX2_levelAt_66 rfl (lv_at hl 3 rfl) ?_
            refine r_icmp_lt (tgt := 77) hx hb dX2_levelAt_67 (by decide) (by omega) (by omega) (fun cl => ?_) (fun cl => ?_)
            · refine lv_iload hx hb dX2_levelAt_77 (lv_at hl 0 rfl) ?_
              refine r_iconst hx hb dX2_levelAt_79 ?_
              refine r_iadd hx hb dX2_levelAt_80 ?_
              refine lv_istore_n (lv' := [(3, .int (iI (((a + b) / 2) + 1))), (5, .int (iI ((a + b) / 2))), (4, .int (iI b)), (2, .int (iI (heavyS (I 4) (F 9) (F 5) (I 10) (F 14)))), (0, .ref h), (1, .int (iI sl))]) hx hb dX2_levelAt_81 rfl hl (by decide) rfl (fun ls hl => ?_)
              refine lv_goto (tgt := 39) hx hb dX2_levelAt_82 (by decide) ?_
              exact ih10 (((a + b) / 2) + 1) b (va_up (va_up (va_up (va_up I 66 ga) 67 gb) 66 (pushS (I 1) (F 2) (F 3) sl ((a + b) / 2))) 67 (upS (I 1) (F 2) (F 3) sl ((a + b) / 2))) (by omega) (by omega) (by omega) (by omega) (⟨_, _, up4 I ga gb _ _⟩) (by cases fu with | zero => exact absurd hfu (by omega) | succ fu => exact ⟨fu, by rw [← efu, bis_lt cab (by exact cl)], by omega⟩) _ _ _ hM hS (lv_sub hl [2, 0, 3, 4, 5] rfl)
            · refine lv_iload hx hb dX2_levelAt_70 (lv_at hl 0 rfl) ?_
              refine lv_istore (lv' := [(4, .int (iI ((a + b) / 2))), (5, .int (iI ((a + b) / 2))), (3, .int (iI a)), (2, .int (iI (heavyS (I 4) (F 9) (F 5) (I 10) (F 14)))), (0, .ref h), (1, .int (iI sl))]) hx hb dX2_levelAt_72 hl (by decide) rfl (fun ls hl => ?_)
              refine lv_goto (tgt := 82) hx hb dX2_levelAt_74 (by decide) ?_
              refine lv_goto (tgt := 39) hx hb dX2_levelAt_82 (by decide) ?_
              exact ih10 a ((a + b) / 2) (va_up (va_up (va_up (va_up I 66 ga) 67 gb) 66 (pushS (I 1) (F 2) (F 3) sl ((a + b) / 2))) 67 (upS (I 1) (F 2) (F 3) sl ((a + b) / 2))) (by omega) (by omega) (by omega) (by omega) (⟨_, _, up4 I ga gb _ _⟩) (by cases fu with | zero => exact absurd hfu (by omega) | succ fu => exact ⟨fu, by rw [← efu, bis_ge cab (by omega)], by omega⟩) _ _ _ hM hS (lv_sub hl [0, 2, 3, 4, 5] rfl)
      exact loop39_9 ((4000 - (-2000) : Int).toNat + 1) (-2000) 4000 (va_up (va_up I 66 (pushS (I 1) (F 2) (F 3) sl 4000)) 67 (upS (I 1) (F 2) (F 3) sl 4000)) (by omega) (by omega) (by omega) (by omega) (⟨_, _, rfl⟩) (⟨6000, rfl, by decide⟩) _ _ _ hM hS (lv_sub hl [0, 1, 2, 3, 4] rfl)
    · refine r_ldc hx hb (-2147483648) hown (hts _ q1289) (by decide) dX2_levelAt_36 ?_
      exact m_iret hC hQ hr hlk hM hS dX2_levelAt_38 (⟨by unfold lvF levelS; rw [if_pos (Or.inr cp)], ⟨_, _, rfl, fun q => absurd (by unfold lvF levelS; rw [if_pos (Or.inr cp)]) q⟩, rfl⟩)
  · refine r_ldc hx hb (-2147483648) hown (hts _ q1289) (by decide) dX2_levelAt_9 ?_
    exact m_iret hC hQ hr hlk hM hS dX2_levelAt_11 (⟨by unfold lvF levelS; rw [if_pos (Or.inl cv)], ⟨I 66, I 67, up2s I, fun q => absurd (by unfold lvF levelS; rw [if_pos (Or.inl cv)]) q⟩, rfl⟩)
