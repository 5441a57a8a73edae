/-! THE MODEL: small methods -/
set_option maxRecDepth 100000
theorem dX2_heavy_0 : decode cX2_heavy 0 = .ok (.iconst 0, 1) := by decide +kernel
theorem dX2_heavy_1 : decode cX2_heavy 1 = .ok (.istore_n 1, 1) := by decide +kernel
theorem dX2_heavy_2 : decode cX2_heavy 2 = .ok (.iconst 0, 1) := by decide +kernel
theorem dX2_heavy_3 : decode cX2_heavy 3 = .ok (.istore_n 2, 1) := by decide +kernel
theorem dX2_heavy_4 : decode cX2_heavy 4 = .ok (.iload_n 2, 1) := by decide +kernel
theorem dX2_heavy_5 : decode cX2_heavy 5 = .ok (.aload_n 0, 1) := by decide +kernel
theorem dX2_heavy_6 : decode cX2_heavy 6 = .ok (.getfield 181, 3) := by decide +kernel
theorem dX2_heavy_9 : decode cX2_heavy 9 = .ok (.if_icmp .ge 31, 3) := by decide +kernel
theorem dX2_heavy_12 : decode cX2_heavy 12 = .ok (.iload_n 1, 1) := by decide +kernel
theorem dX2_heavy_13 : decode cX2_heavy 13 = .ok (.aload_n 0, 1) := by decide +kernel
theorem dX2_heavy_14 : decode cX2_heavy 14 = .ok (.getfield 31, 3) := by decide +kernel
theorem dX2_heavy_17 : decode cX2_heavy 17 = .ok (.iload_n 2, 1) := by decide +kernel
theorem dX2_heavy_18 : decode cX2_heavy 18 = .ok (.baload, 1) := by decide +kernel
theorem dX2_heavy_19 : decode cX2_heavy 19 = .ok (.ifCond .eq 7, 3) := by decide +kernel
theorem dX2_heavy_22 : decode cX2_heavy 22 = .ok (.iconst 0, 1) := by decide +kernel
theorem dX2_heavy_23 : decode cX2_heavy 23 = .ok (.goto 9, 3) := by decide +kernel
theorem dX2_heavy_26 : decode cX2_heavy 26 = .ok (.aload_n 0, 1) := by decide +kernel
theorem dX2_heavy_27 : decode cX2_heavy 27 = .ok (.getfield 19, 3) := by decide +kernel
theorem dX2_heavy_30 : decode cX2_heavy 30 = .ok (.iload_n 2, 1) := by decide +kernel
theorem dX2_heavy_31 : decode cX2_heavy 31 = .ok (.iaload, 1) := by decide +kernel
theorem dX2_heavy_32 : decode cX2_heavy 32 = .ok (.iadd, 1) := by decide +kernel
theorem dX2_heavy_33 : decode cX2_heavy 33 = .ok (.istore_n 1, 1) := by decide +kernel
theorem dX2_heavy_34 : decode cX2_heavy 34 = .ok (.iinc 2 1, 3) := by decide +kernel
theorem dX2_heavy_37 : decode cX2_heavy 37 = .ok (.goto (-33), 3) := by decide +kernel
theorem dX2_heavy_40 : decode cX2_heavy 40 = .ok (.iconst 0, 1) := by decide +kernel
theorem dX2_heavy_41 : decode cX2_heavy 41 = .ok (.istore_n 2, 1) := by decide +kernel
theorem dX2_heavy_42 : decode cX2_heavy 42 = .ok (.iload_n 2, 1) := by decide +kernel
theorem dX2_heavy_43 : decode cX2_heavy 43 = .ok (.aload_n 0, 1) := by decide +kernel
theorem dX2_heavy_44 : decode cX2_heavy 44 = .ok (.getfield 188, 3) := by decide +kernel
theorem dX2_heavy_47 : decode cX2_heavy 47 = .ok (.if_icmp .ge 18, 3) := by decide +kernel
theorem dX2_heavy_50 : decode cX2_heavy 50 = .ok (.iload_n 1, 1) := by decide +kernel
theorem dX2_heavy_51 : decode cX2_heavy 51 = .ok (.aload_n 0, 1) := by decide +kernel
theorem dX2_heavy_52 : decode cX2_heavy 52 = .ok (.getfield 44, 3) := by decide +kernel
theorem dX2_heavy_55 : decode cX2_heavy 55 = .ok (.iload_n 2, 1) := by decide +kernel
theorem dX2_heavy_56 : decode cX2_heavy 56 = .ok (.iaload, 1) := by decide +kernel
theorem dX2_heavy_57 : decode cX2_heavy 57 = .ok (.iadd, 1) := by decide +kernel
theorem dX2_heavy_58 : decode cX2_heavy 58 = .ok (.istore_n 1, 1) := by decide +kernel
theorem dX2_heavy_59 : decode cX2_heavy 59 = .ok (.iinc 2 1, 3) := by decide +kernel
theorem dX2_heavy_62 : decode cX2_heavy 62 = .ok (.goto (-20), 3) := by decide +kernel
theorem dX2_heavy_65 : decode cX2_heavy 65 = .ok (.iload_n 1, 1) := by decide +kernel
theorem dX2_heavy_66 : decode cX2_heavy 66 = .ok (.ireturn, 1) := by decide +kernel
set_option maxHeartbeats 4000000 in
theorem met_heavy (l : Launch) (D : va_G) (E : Nat → ClassId) (A : Nat → Prop) (h : Nat) (ad : Nat → Nat) (I : Nat → Int) (F : Nat → Int → Int) (gl : gLoad I F) : MM l yX2_heavy cX2_heavy 3 (some .int) (mrm 0) D E A h ad [] I F (MQi D E A h ad (fun z I1 F1 => heavyS (I 4) (F 9) (F 5) (I 10) (F 14) = z ∧ I = I1 ∧ F = F1)) := by
  refine m_start (by decide) rfl (Nat.le_of_ble_eq_true rfl) ?_
  intro p e R s m args below meth c ls Q hR hQ hC hml hr hlk hM hS hl
  have hx := hC.1
  have hb := hC.2.1
  have hown := hC.2.2.1
  have hts := hC.2.2.2.1
  have hl : lv_has ls 3 [(0, .ref h)] := hl
  obtain ⟨i4, a5, a6, a7, a8, a9, i10, a11, a12, a13, a14, a14h⟩ := gl
  refine r_iconst hx hb dX2_heavy_0 ?_
  refine lv_istore_n (lv' := [(1, .int (iI 0)), (0, .ref h)]) hx hb dX2_heavy_1 rfl hl (by decide) rfl (fun ls hl => ?_)
  refine r_iconst hx hb dX2_heavy_2 ?_
  refine lv_istore_n (lv' := [(2, .int (iI 0)), (1, .int (iI 0)), (0, .ref h)]) hx hb dX2_heavy_3 rfl hl (by decide) rfl (fun ls hl => ?_)
  have loop4_1 : ∀ (n : Nat) (x k : Int), I 4 - k < (n : Int) → x = sm (fun w => if F 9 w = 0 then F 5 w else 0) k → 0 ≤ k → k ≤ I 4 → ∀ (H : Heap) (locs : List Loc) (ls : Array Slot), MW D E A h ad I F H → va_S A s.heap H locs → lv_has ls 3 [(2, .int (iI k)), (1, .int (iI x)), (0, .ref h)] → W p l e R s m args below meth c H locs 0 0 Q (F0 m 4 ls []) := by
    intro n
    induction n with
    | zero => intro x k hn3 ex hk0 hk1; exfalso; omega
    | succ n ih2 =>
      intro x k hn3 ex hk0 hk1 H locs ls hM hS hl
      refine lv_iload_n hx hb dX2_heavy_4 rfl (lv_at hl 0 rfl) ?_
      refine lv_aload_n hx hb dX2_heavy_5 rfl (lv_at hl 2 rfl) ?_
      refine mg_4 (v := I 4) hC hM rfl dX2_heavy_6 ?_
      refine r_icmp_ge (tgt := 40) hx hb dX2_heavy_9 (by decide) (by omega) (by omega) (fun c4 => ?_) (fun c4 => ?_)
      · have ek : k = I 4 := by omega
        refine r_iconst hx hb dX2_heavy_40 ?_
        refine lv_istore_n (lv' := [(2, .int (iI 0)), (1, .int (iI x)), (0, .ref h)]) hx hb dX2_heavy_41 rfl hl (by decide) rfl (fun ls hl => ?_)
        have loop42_5 : ∀ (n : Nat) (y j : Int), I 10 - j < (n : Int) → y = sm (fun w => if F 9 w = 0 then F 5 w else 0) (I 4) + sm (F 14) j → 0 ≤ j → j ≤ I 10 → ∀ (H : Heap) (locs : List Loc) (ls : Array Slot), MW D E A h ad I F H → va_S A s.heap H locs → lv_has ls 3 [(2, .int (iI j)), (1, .int (iI y)), (0, .ref h)] → W p l e R s m args below meth c H locs 0 0 Q (F0 m 42 ls []) := by
          intro n
          induction n with
          | zero => intro y j hn7 ey hj0 hj1; exfalso; omega
          | succ n ih6 =>
            intro y j hn7 ey hj0 hj1 H locs ls hM hS hl
            refine lv_iload_n hx hb dX2_heavy_42 rfl (lv_at hl 0 rfl) ?_
            refine lv_aload_n hx hb dX2_heavy_43 rfl (lv_at hl 2 rfl) ?_
            refine mg_10 (v := I 10) hC hM rfl dX2_heavy_44 ?_
            refine r_icmp_ge (tgt := 65) hx hb dX2_heavy_47 (by decide) (by omega) (by omega) (fun c8 => ?_) (fun c8 => ?_)
            · refine lv_iload_n hx hb dX2_heavy_65 rfl (lv_at hl 1 rfl) ?_
              have ej : j = I 10 := by omega
              exact m_iret hC hQ hr hlk hM hS dX2_heavy_66 (⟨by unfold heavyS; rw [ey, ej], rfl, rfl⟩)
            · refine lv_iload_n hx hb dX2_heavy_50 rfl (lv_at hl 1 rfl) ?_
              refine lv_aload_n hx hb dX2_heavy_51 rfl (lv_at hl 2 rfl) ?_
              refine mg_14 hC hM dX2_heavy_52 ?_
              refine lv_iload_n hx hb dX2_heavy_55 rfl (lv_at hl 0 rfl) ?_
              refine ml_14 (v := F 14 j) hC hM (by omega) rfl dX2_heavy_56 ?_
              refine r_iadd hx hb dX2_heavy_57 ?_
              refine lv_istore_n (lv' := [(1, .int (iI (y + (F 14 j)))), (2, .int (iI j)), (0, .ref h)]) hx hb dX2_heavy_58 rfl hl (by decide) rfl (fun ls hl => ?_)
              refine lv_iinc (v := iI (j + 1)) (lv' := [(2, .int (iI (j + 1))), (1, .int (iI (y + (F 14 j)))), (0, .ref h)]) hx hb dX2_heavy_59 hl (k := 1) rfl (iI_add _ _) (by decide) rfl (fun ls hl => ?_)
              refine lv_goto (tgt := 42) hx hb dX2_heavy_62 (by decide) ?_
              exact ih6 (y + (F 14 j)) (j + 1) (by omega) (by rw [ey, sm_s _ hj0, Int.add_assoc]) (by omega) (by omega) _ _ _ hM hS (lv_sub hl [0, 1, 2] rfl)
        exact loop42_5 ((I 10 - 0 : Int).toNat + 1) x 0 (by omega) (by rw [ex, ek, sm_0, Int.add_zero]) (by omega) (by omega) _ _ _ hM hS (lv_sub hl [0, 1, 2] rfl)
      · have b9 := a9 k (by omega) (by omega)
        refine lv_iload_n hx hb dX2_heavy_12 rfl (lv_at hl 1 rfl) ?_
        refine lv_aload_n hx hb dX2_heavy_13 rfl (lv_at hl 2 rfl) ?_
        refine mg_9 hC hM dX2_heavy_14 ?_
        refine lv_iload_n hx hb dX2_heavy_17 rfl (lv_at hl 0 rfl) ?_
        refine ml_9 (v := F 9 k) hC hM (by omega) rfl dX2_heavy_18 ?_
        have jn9 : W p l e R s m args below meth c H locs 0 0 Q (F0 m 32 ls [.int (iI (if F 9 k = 0 then F 5 k else 0)), .int (iI x)]) := by
          refine r_iadd hx hb dX2_heavy_32 ?_
          refine lv_istore_n (lv' := [(1, .int (iI (x + (if F 9 k = 0 then F 5 k else 0)))), (2, .int (iI k)), (0, .ref h)]) hx hb dX2_heavy_33 rfl hl (by decide) rfl (fun ls hl => ?_)
          refine lv_iinc (v := iI (k + 1)) (lv' := [(2, .int (iI (k + 1))), (1, .int (iI (x + (if F 9 k = 0 then F 5 k else 0)))), (0, .ref h)]) hx hb dX2_heavy_34 hl (k := 1) rfl (iI_add _ _) (by decide) rfl (fun ls hl => ?_)
          refine lv_goto (tgt := 4) hx hb dX2_heavy_37 (by decide) ?_
          exact ih2 (x + (if F 9 k = 0 then F 5 k else 0)) (k + 1) (by omega) (by rw [ex, sm_s _ hk0]) (by omega) (by omega) _ _ _ hM hS (lv_sub hl [0, 1, 2] rfl)
        refine r_if_eq (tgt := 26) hx hb dX2_heavy_19 (by decide) (by omega) (fun cz => ?_) (fun cz => ?_)
        · refine lv_aload_n hx hb dX2_heavy_26 rfl (lv_at hl 2 rfl) ?_
          refine mg_5 hC hM dX2_heavy_27 ?_
          refine lv_iload_n hx hb dX2_heavy_30 rfl (lv_at hl 0 rfl) ?_
          refine ml_5 (v := F 5 k) hC hM (by omega) rfl dX2_heavy_31 ?_
          rw [if_pos cz] at jn9
          exact jn9
        · refine r_iconst hx hb dX2_heavy_22 ?_
          refine lv_goto (tgt := 32) hx hb dX2_heavy_23 (by decide) ?_
          rw [if_neg cz] at jn9
          exact jn9
  exact loop4_1 ((I 4 - 0 : Int).toNat + 1) 0 0 (by omega) rfl (by omega) (by omega) _ _ _ hM hS (lv_sub hl [0, 1, 2] rfl)
theorem dX2_isWeight_0 : decode cX2_isWeight 0 = .ok (.iload_n 1, 1) := by decide +kernel
theorem dX2_isWeight_1 : decode cX2_isWeight 1 = .ok (.iconst 0, 1) := by decide +kernel
theorem dX2_isWeight_2 : decode cX2_isWeight 2 = .ok (.aload_n 0, 1) := by decide +kernel
theorem dX2_isWeight_3 : decode cX2_isWeight 3 = .ok (.getfield 181, 3) := by decide +kernel
theorem dX2_isWeight_6 : decode cX2_isWeight 6 = .ok (.iconst 1, 1) := by decide +kernel
theorem dX2_isWeight_7 : decode cX2_isWeight 7 = .ok (.isub, 1) := by decide +kernel
theorem dX2_isWeight_8 : decode cX2_isWeight 8 = .ok (.invokestatic 173, 3) := by decide +kernel
theorem dX2_isWeight_11 : decode cX2_isWeight 11 = .ok (.ifCond .eq 16, 3) := by decide +kernel
theorem dX2_isWeight_14 : decode cX2_isWeight 14 = .ok (.aload_n 0, 1) := by decide +kernel
theorem dX2_isWeight_15 : decode cX2_isWeight 15 = .ok (.getfield 31, 3) := by decide +kernel
theorem dX2_isWeight_18 : decode cX2_isWeight 18 = .ok (.iload_n 1, 1) := by decide +kernel
theorem dX2_isWeight_19 : decode cX2_isWeight 19 = .ok (.baload, 1) := by decide +kernel
theorem dX2_isWeight_20 : decode cX2_isWeight 20 = .ok (.ifCond .ne 7, 3) := by decide +kernel
theorem dX2_isWeight_23 : decode cX2_isWeight 23 = .ok (.iconst 1, 1) := by decide +kernel
theorem dX2_isWeight_24 : decode cX2_isWeight 24 = .ok (.goto 4, 3) := by decide +kernel
theorem dX2_isWeight_27 : decode cX2_isWeight 27 = .ok (.iconst 0, 1) := by decide +kernel
theorem dX2_isWeight_28 : decode cX2_isWeight 28 = .ok (.ireturn, 1) := by decide +kernel
set_option maxHeartbeats 4000000 in
theorem met_isWeight (l : Launch) (D : va_G) (E : Nat → ClassId) (A : Nat → Prop) (h : Nat) (ad : Nat → Nat) (I : Nat → Int) (F : Nat → Int → Int) (wt : Int) (rw : R32 wt) (gl : gLoad I F) : MM l yX2_isWeight cX2_isWeight 2 (some .boolean) (mrm 1) D E A h ad [.int (iI wt)] I F (MQi D E A h ad (fun z I1 F1 => (if 0 ≤ wt ∧ wt < I 4 ∧ F 9 wt = 0 then 1 else 0) = z ∧ I = I1 ∧ F = F1)) := by
  refine m_start (by decide) rfl (Nat.le_of_ble_eq_true rfl) ?_
  intro p e R s m args below meth c ls Q hR hQ hC hml hr hlk hM hS hl
  have hx := hC.1
  have hb := hC.2.1
  have hown := hC.2.2.1
  have hts := hC.2.2.2.1
  have hl : lv_has ls 2 [(0, .ref h), (1, .int (iI wt))] := hl
  obtain ⟨i4, a5, a6, a7, a8, a9, i10, a11, a12, a13, a14, a14h⟩ := gl
  refine lv_iload_n hx hb dX2_isWeight_0 rfl (lv_at hl 1 rfl) ?_
  refine r_iconst hx hb dX2_isWeight_1 ?_
  refine lv_aload_n hx hb dX2_isWeight_2 rfl (lv_at hl 0 rfl) ?_
  refine mg_4 (v := I 4) hC hM rfl dX2_isWeight_3 ?_
  refine r_iconst hx hb dX2_isWeight_6 ?_
  refine r_isub hx hb dX2_isWeight_7 ?_
  refine s_calli (kX2_X2_in (rest := []) (as := [.int (iI wt), .int (iI 0), .int (iI ((I 4) - 1))]) hx hb hml hown hts (met_in l wt 0 ((I 4) - 1) rw (by decide) (by omega)) ⟨rfl, rfl⟩ hR (by decide) rfl hl.1 rfl (Nat.le_of_ble_eq_true rfl) dX2_isWeight_8) ?_
  refine r_ifeqB (tgt := 27) hx hb dX2_isWeight_11 (by decide) (fun c1 => ?_) (fun c1 => ?_)
  · refine r_iconst hx hb dX2_isWeight_27 ?_
    exact m_zret hC hQ hr hlk hM hS (by decide) dX2_isWeight_28 (⟨by split <;> omega, rfl, rfl⟩)
  · have b9 := a9 wt (by omega) (by omega)
    refine lv_aload_n hx hb dX2_isWeight_14 rfl (lv_at hl 0 rfl) ?_
    refine mg_9 hC hM dX2_isWeight_15 ?_
    refine lv_iload_n hx hb dX2_isWeight_18 rfl (lv_at hl 1 rfl) ?_
    refine ml_9 (v := F 9 wt) hC hM (by omega) rfl dX2_isWeight_19 ?_
    refine r_if_ne (tgt := 27) hx hb dX2_isWeight_20 (by decide) (by omega) (fun c2 => ?_) (fun c2 => ?_)
    · refine r_iconst hx hb dX2_isWeight_27 ?_
      exact m_zret hC hQ hr hlk hM hS (by decide) dX2_isWeight_28 (⟨by split <;> omega, rfl, rfl⟩)
    · refine r_iconst hx hb dX2_isWeight_23 ?_
      refine lv_goto (tgt := 28) hx hb dX2_isWeight_24 (by decide) ?_
      exact m_zret hC hQ hr hlk hM hS (by decide) dX2_isWeight_28 (⟨by split <;> omega, rfl, rfl⟩)
