/-! THE MODEL: static methods -/
set_option maxRecDepth 100000
theorem dX2_in_0 : decode cX2_in 0 = .ok (.iload_n 0, 1) := by decide +kernel
theorem dX2_in_1 : decode cX2_in 1 = .ok (.iload_n 1, 1) := by decide +kernel
theorem dX2_in_2 : decode cX2_in 2 = .ok (.if_icmp .lt 12, 3) := by decide +kernel
theorem dX2_in_5 : decode cX2_in 5 = .ok (.iload_n 0, 1) := by decide +kernel
theorem dX2_in_6 : decode cX2_in 6 = .ok (.iload_n 2, 1) := by decide +kernel
theorem dX2_in_7 : decode cX2_in 7 = .ok (.if_icmp .gt 7, 3) := by decide +kernel
theorem dX2_in_10 : decode cX2_in 10 = .ok (.iconst 1, 1) := by decide +kernel
theorem dX2_in_11 : decode cX2_in 11 = .ok (.goto 4, 3) := by decide +kernel
theorem dX2_in_14 : decode cX2_in 14 = .ok (.iconst 0, 1) := by decide +kernel
theorem dX2_in_15 : decode cX2_in 15 = .ok (.ireturn, 1) := by decide +kernel
set_option maxHeartbeats 4000000 in
theorem met_in (l : Launch) (v lo hi : Int) (rv : R32 v) (rl : R32 lo) (rh : R32 hi) : SM l yX2_in cX2_in 3 (some .boolean) (mrm 0) [.int (iI v), .int (iI lo), .int (iI hi)] (vp_Si (fun r => r = iI (if lo ≤ v ∧ v ≤ hi then 1 else 0))) := by
  refine s_start (by decide) rfl (Nat.le_of_ble_eq_true rfl) ?_
  intro p e R s m args below meth c ls Q hR hQ hC hml hr hlk hl
  have hx := hC.1
  have hb := hC.2.1
  have hown := hC.2.2.1
  have hts := hC.2.2.2
  have hl : lv_has ls 3 [(0, .int (iI v)), (1, .int (iI lo)), (2, .int (iI hi))] := hl
  refine lv_iload_n hx hb dX2_in_0 rfl (lv_at hl 0 rfl) ?_
  refine lv_iload_n hx hb dX2_in_1 rfl (lv_at hl 1 rfl) ?_
  refine r_icmp_lt (tgt := 14) hx hb dX2_in_2 (by decide) rv rl (fun c1 => ?_) (fun c1 => ?_)
  · refine r_iconst hx hb dX2_in_14 ?_
    exact s_zret hC hr hlk (by decide) hQ dX2_in_15 (by split <;> omega)
  · refine lv_iload_n hx hb dX2_in_5 rfl (lv_at hl 0 rfl) ?_
    refine lv_iload_n hx hb dX2_in_6 rfl (lv_at hl 2 rfl) ?_
    refine r_icmp_gt (tgt := 14) hx hb dX2_in_7 (by decide) rv rh (fun c2 => ?_) (fun c2 => ?_)
    · refine r_iconst hx hb dX2_in_14 ?_
      exact s_zret hC hr hlk (by decide) hQ dX2_in_15 (by split <;> omega)
    · refine r_iconst hx hb dX2_in_10 ?_
      refine lv_goto (tgt := 15) hx hb dX2_in_11 (by decide) ?_
      exact s_zret hC hr hlk (by decide) hQ dX2_in_15 (by split <;> omega)
theorem dX2_bounded_0 : decode cX2_bounded 0 = .ok (.lload_n 0, 1) := by decide +kernel
theorem dX2_bounded_1 : decode cX2_bounded 1 = .ok (.iload_n 2, 1) := by decide +kernel
theorem dX2_bounded_2 : decode cX2_bounded 2 = .ok (.ineg, 1) := by decide +kernel
theorem dX2_bounded_3 : decode cX2_bounded 3 = .ok (.i2l, 1) := by decide +kernel
theorem dX2_bounded_4 : decode cX2_bounded 4 = .ok (.lcmp, 1) := by decide +kernel
theorem dX2_bounded_5 : decode cX2_bounded 5 = .ok (.ifCond .ge 8, 3) := by decide +kernel
theorem dX2_bounded_8 : decode cX2_bounded 8 = .ok (.iload_n 2, 1) := by decide +kernel
theorem dX2_bounded_9 : decode cX2_bounded 9 = .ok (.ineg, 1) := by decide +kernel
theorem dX2_bounded_10 : decode cX2_bounded 10 = .ok (.goto 16, 3) := by decide +kernel
theorem dX2_bounded_13 : decode cX2_bounded 13 = .ok (.lload_n 0, 1) := by decide +kernel
theorem dX2_bounded_14 : decode cX2_bounded 14 = .ok (.iload_n 2, 1) := by decide +kernel
theorem dX2_bounded_15 : decode cX2_bounded 15 = .ok (.i2l, 1) := by decide +kernel
theorem dX2_bounded_16 : decode cX2_bounded 16 = .ok (.lcmp, 1) := by decide +kernel
theorem dX2_bounded_17 : decode cX2_bounded 17 = .ok (.ifCond .le 7, 3) := by decide +kernel
theorem dX2_bounded_20 : decode cX2_bounded 20 = .ok (.iload_n 2, 1) := by decide +kernel
theorem dX2_bounded_21 : decode cX2_bounded 21 = .ok (.goto 5, 3) := by decide +kernel
theorem dX2_bounded_24 : decode cX2_bounded 24 = .ok (.lload_n 0, 1) := by decide +kernel
theorem dX2_bounded_25 : decode cX2_bounded 25 = .ok (.l2i, 1) := by decide +kernel
theorem dX2_bounded_26 : decode cX2_bounded 26 = .ok (.ireturn, 1) := by decide +kernel
set_option maxHeartbeats 4000000 in
theorem met_bounded (l : Launch) (v mx : Int) (rv : R64 v) (rmx : 0 ≤ mx ∧ mx ≤ 2147483647) : SM l yX2_bounded cX2_bounded 3 (some .int) (mrm 0) [.long (iL v), .int (iI mx)] (vp_Si (fun r => r = iI (clampZ v mx))) := by
  refine s_start (by decide) rfl (Nat.le_of_ble_eq_true rfl) ?_
  intro p e R s m args below meth c ls Q hR hQ hC hml hr hlk hl
  have hx := hC.1
  have hb := hC.2.1
  have hown := hC.2.2.1
  have hts := hC.2.2.2
  have hl : lv_has ls 3 [(0, .long (iL v)), (2, .int (iI mx))] := hl
  refine lv_lload_n hx hb dX2_bounded_0 rfl (lv_at hl 0 rfl) ?_
  refine lv_iload_n hx hb dX2_bounded_1 rfl (lv_at hl 1 rfl) ?_
  refine r_ineg hx hb dX2_bounded_2 ?_
  refine r_i2l hx hb dX2_bounded_3 (by omega) ?_
  refine r_lcmp hx hb dX2_bounded_4 rv (by omega) ?_
  refine r_lif_ge (tgt := 13) hx hb dX2_bounded_5 (by decide) (fun c1 => ?_) (fun c1 => ?_)
  · refine lv_lload_n hx hb dX2_bounded_13 rfl (lv_at hl 0 rfl) ?_
    refine lv_iload_n hx hb dX2_bounded_14 rfl (lv_at hl 1 rfl) ?_
    refine r_i2l hx hb dX2_bounded_15 (by omega) ?_
    refine r_lcmp hx hb dX2_bounded_16 rv (by omega) ?_
    refine r_lif_le (tgt := 24) hx hb dX2_bounded_17 (by decide) (fun c2 => ?_) (fun c2 => ?_)
    · refine lv_lload_n hx hb dX2_bounded_24 rfl (lv_at hl 0 rfl) ?_
      refine r_l2i hx hb dX2_bounded_25 ?_
      exact s_iret hC hr hlk hQ dX2_bounded_26 (by unfold clampZ; split <;> (try split) <;> omega)
    · refine lv_iload_n hx hb dX2_bounded_20 rfl (lv_at hl 1 rfl) ?_
      refine lv_goto (tgt := 26) hx hb dX2_bounded_21 (by decide) ?_
      exact s_iret hC hr hlk hQ dX2_bounded_26 (by unfold clampZ; split <;> (try split) <;> omega)
  · refine lv_iload_n hx hb dX2_bounded_8 rfl (lv_at hl 1 rfl) ?_
    refine r_ineg hx hb dX2_bounded_9 ?_
    refine lv_goto (tgt := 26) hx hb dX2_bounded_10 (by decide) ?_
    exact s_iret hC hr hlk hQ dX2_bounded_26 (by unfold clampZ; split <;> (try split) <;> omega)
theorem dX2_floor_0 : decode cX2_floor 0 = .ok (.lload_n 0, 1) := by decide +kernel
theorem dX2_floor_1 : decode cX2_floor 1 = .ok (.lconst 0, 1) := by decide +kernel
theorem dX2_floor_2 : decode cX2_floor 2 = .ok (.lcmp, 1) := by decide +kernel
theorem dX2_floor_3 : decode cX2_floor 3 = .ok (.ifCond .lt 9, 3) := by decide +kernel
theorem dX2_floor_6 : decode cX2_floor 6 = .ok (.lload_n 0, 1) := by decide +kernel
theorem dX2_floor_7 : decode cX2_floor 7 = .ok (.lload_n 2, 1) := by decide +kernel
theorem dX2_floor_8 : decode cX2_floor 8 = .ok (.ldiv, 1) := by decide +kernel
theorem dX2_floor_9 : decode cX2_floor 9 = .ok (.goto 12, 3) := by decide +kernel
theorem dX2_floor_12 : decode cX2_floor 12 = .ok (.lload_n 0, 1) := by decide +kernel
theorem dX2_floor_13 : decode cX2_floor 13 = .ok (.lneg, 1) := by decide +kernel
theorem dX2_floor_14 : decode cX2_floor 14 = .ok (.lload_n 2, 1) := by decide +kernel
theorem dX2_floor_15 : decode cX2_floor 15 = .ok (.ladd, 1) := by decide +kernel
theorem dX2_floor_16 : decode cX2_floor 16 = .ok (.lconst 1, 1) := by decide +kernel
theorem dX2_floor_17 : decode cX2_floor 17 = .ok (.lsub, 1) := by decide +kernel
theorem dX2_floor_18 : decode cX2_floor 18 = .ok (.lload_n 2, 1) := by decide +kernel
theorem dX2_floor_19 : decode cX2_floor 19 = .ok (.ldiv, 1) := by decide +kernel
theorem dX2_floor_20 : decode cX2_floor 20 = .ok (.lneg, 1) := by decide +kernel
theorem dX2_floor_21 : decode cX2_floor 21 = .ok (.lreturn, 1) := by decide +kernel
set_option maxHeartbeats 4000000 in
theorem met_floor (l : Launch) (v b : Int) (rv : -4611686018427387904 ≤ v ∧ v ≤ 4611686018427387904) (rb : 0 < b ∧ b ≤ 2147483647) : SM l yX2_floor cX2_floor 4 (some .long) (mrm 0) [.long (iL v), .long (iL b)] (vp_Sl (fun r => r = iL (v / b))) := by
  refine s_start (by decide) rfl (Nat.le_of_ble_eq_true rfl) ?_
  intro p e R s m args below meth c ls Q hR hQ hC hml hr hlk hl
  have hx := hC.1
  have hb := hC.2.1
  have hown := hC.2.2.1
  have hts := hC.2.2.2
  have hl : lv_has ls 4 [(0, .long (iL v)), (2, .long (iL b))] := hl
  refine lv_lload_n hx hb dX2_floor_0 rfl (lv_at hl 0 rfl) ?_
  refine r_lconst hx hb 0 dX2_floor_1 (by decide) ?_
  refine r_lcmp hx hb dX2_floor_2 (by omega) (by decide) ?_
  refine r_lif_lt (tgt := 12) hx hb dX2_floor_3 (by decide) (fun c1 => ?_) (fun c1 => ?_)
  · refine lv_lload_n hx hb dX2_floor_12 rfl (lv_at hl 0 rfl) ?_
    refine r_lneg hx hb dX2_floor_13 ?_
    refine lv_lload_n hx hb dX2_floor_14 rfl (lv_at hl 1 rfl) ?_
    refine r_ladd hx hb dX2_floor_15 ?_
    refine r_lconst hx hb 1 dX2_floor_16 (by decide) ?_
    refine r_lsub hx hb dX2_floor_17 ?_
    refine lv_lload_n hx hb dX2_floor_18 rfl (lv_at hl 1 rfl) ?_
    refine r_ldiv hx hb dX2_floor_19 (by omega) (by omega) (by omega) ?_
    refine r_lneg hx hb dX2_floor_20 ?_
    exact s_lret hC hr hlk hQ dX2_floor_21 (by rw [← tdiv_floor rb.1]; split <;> first | rfl | omega)
  · refine lv_lload_n hx hb dX2_floor_6 rfl (lv_at hl 0 rfl) ?_
    refine lv_lload_n hx hb dX2_floor_7 rfl (lv_at hl 1 rfl) ?_
    refine r_ldiv hx hb dX2_floor_8 (by omega) (by omega) (by omega) ?_
    refine lv_goto (tgt := 21) hx hb dX2_floor_9 (by decide) ?_
    exact s_lret hC hr hlk hQ dX2_floor_21 (by rw [← tdiv_floor rb.1]; split <;> first | rfl | omega)
theorem dX2_isLetter_0 : decode cX2_isLetter 0 = .ok (.iload_n 0, 1) := by decide +kernel
theorem dX2_isLetter_1 : decode cX2_isLetter 1 = .ok (.bipush 97, 2) := by decide +kernel
theorem dX2_isLetter_3 : decode cX2_isLetter 3 = .ok (.if_icmp .lt 13, 3) := by decide +kernel
theorem dX2_isLetter_6 : decode cX2_isLetter 6 = .ok (.iload_n 0, 1) := by decide +kernel
theorem dX2_isLetter_7 : decode cX2_isLetter 7 = .ok (.bipush 122, 2) := by decide +kernel
theorem dX2_isLetter_9 : decode cX2_isLetter 9 = .ok (.if_icmp .gt 7, 3) := by decide +kernel
theorem dX2_isLetter_12 : decode cX2_isLetter 12 = .ok (.iconst 1, 1) := by decide +kernel
theorem dX2_isLetter_13 : decode cX2_isLetter 13 = .ok (.goto 4, 3) := by decide +kernel
theorem dX2_isLetter_16 : decode cX2_isLetter 16 = .ok (.iconst 0, 1) := by decide +kernel
theorem dX2_isLetter_17 : decode cX2_isLetter 17 = .ok (.ireturn, 1) := by decide +kernel
set_option maxHeartbeats 4000000 in
theorem met_isLetter (l : Launch) (b : Int) (rb : R32 b) : SM l yX2_isLetter cX2_isLetter 1 (some .boolean) (mrm 0) [.int (iI b)] (vp_Si (fun r => r = iI (if 97 ≤ b ∧ b ≤ 122 then 1 else 0))) := by
  refine s_start (by decide) rfl (Nat.le_of_ble_eq_true rfl) ?_
  intro p e R s m args below meth c ls Q hR hQ hC hml hr hlk hl
  have hx := hC.1
  have hb := hC.2.1
  have hown := hC.2.2.1
  have hts := hC.2.2.2
  have hl : lv_has ls 1 [(0, .int (iI b))] := hl
  refine lv_iload_n hx hb dX2_isLetter_0 rfl (lv_at hl 0 rfl) ?_
  refine r_bipush hx hb dX2_isLetter_1 (by decide) ?_
  refine r_icmp_lt (tgt := 16) hx hb dX2_isLetter_3 (by decide) rb (by decide) (fun c1 => ?_) (fun c1 => ?_)
  · refine r_iconst hx hb dX2_isLetter_16 ?_
    exact s_zret hC hr hlk (by decide) hQ dX2_isLetter_17 (by split <;> omega)
  · refine lv_iload_n hx hb dX2_isLetter_6 rfl (lv_at hl 0 rfl) ?_
    refine r_bipush hx hb dX2_isLetter_7 (by decide) ?_
    refine r_icmp_gt (tgt := 16) hx hb dX2_isLetter_9 (by decide) rb (by decide) (fun c2 => ?_) (fun c2 => ?_)
    · refine r_iconst hx hb dX2_isLetter_16 ?_
      exact s_zret hC hr hlk (by decide) hQ dX2_isLetter_17 (by split <;> omega)
    · refine r_iconst hx hb dX2_isLetter_12 ?_
      refine lv_goto (tgt := 17) hx hb dX2_isLetter_13 (by decide) ?_
      exact s_zret hC hr hlk (by decide) hQ dX2_isLetter_17 (by split <;> omega)
theorem dX2_isDigit_0 : decode cX2_isDigit 0 = .ok (.iload_n 0, 1) := by decide +kernel
theorem dX2_isDigit_1 : decode cX2_isDigit 1 = .ok (.bipush 48, 2) := by decide +kernel
theorem dX2_isDigit_3 : decode cX2_isDigit 3 = .ok (.if_icmp .lt 13, 3) := by decide +kernel
theorem dX2_isDigit_6 : decode cX2_isDigit 6 = .ok (.iload_n 0, 1) := by decide +kernel
theorem dX2_isDigit_7 : decode cX2_isDigit 7 = .ok (.bipush 57, 2) := by decide +kernel
theorem dX2_isDigit_9 : decode cX2_isDigit 9 = .ok (.if_icmp .gt 7, 3) := by decide +kernel
theorem dX2_isDigit_12 : decode cX2_isDigit 12 = .ok (.iconst 1, 1) := by decide +kernel
theorem dX2_isDigit_13 : decode cX2_isDigit 13 = .ok (.goto 4, 3) := by decide +kernel
theorem dX2_isDigit_16 : decode cX2_isDigit 16 = .ok (.iconst 0, 1) := by decide +kernel
theorem dX2_isDigit_17 : decode cX2_isDigit 17 = .ok (.ireturn, 1) := by decide +kernel
set_option maxHeartbeats 4000000 in
theorem met_isDigit (l : Launch) (b : Int) (rb : R32 b) : SM l yX2_isDigit cX2_isDigit 1 (some .boolean) (mrm 0) [.int (iI b)] (vp_Si (fun r => r = iI (if 48 ≤ b ∧ b ≤ 57 then 1 else 0))) := by
  refine s_start (by decide) rfl (Nat.le_of_ble_eq_true rfl) ?_
  intro p e R s m args below meth c ls Q hR hQ hC hml hr hlk hl
  have hx := hC.1
  have hb := hC.2.1
  have hown := hC.2.2.1
  have hts := hC.2.2.2
  have hl : lv_has ls 1 [(0, .int (iI b))] := hl
  refine lv_iload_n hx hb dX2_isDigit_0 rfl (lv_at hl 0 rfl) ?_
  refine r_bipush hx hb dX2_isDigit_1 (by decide) ?_
  refine r_icmp_lt (tgt := 16) hx hb dX2_isDigit_3 (by decide) rb (by decide) (fun c1 => ?_) (fun c1 => ?_)
  · refine r_iconst hx hb dX2_isDigit_16 ?_
    exact s_zret hC hr hlk (by decide) hQ dX2_isDigit_17 (by split <;> omega)
  · refine lv_iload_n hx hb dX2_isDigit_6 rfl (lv_at hl 0 rfl) ?_
    refine r_bipush hx hb dX2_isDigit_7 (by decide) ?_
    refine r_icmp_gt (tgt := 16) hx hb dX2_isDigit_9 (by decide) rb (by decide) (fun c2 => ?_) (fun c2 => ?_)
    · refine r_iconst hx hb dX2_isDigit_16 ?_
      exact s_zret hC hr hlk (by decide) hQ dX2_isDigit_17 (by split <;> omega)
    · refine r_iconst hx hb dX2_isDigit_12 ?_
      refine lv_goto (tgt := 17) hx hb dX2_isDigit_13 (by decide) ?_
      exact s_zret hC hr hlk (by decide) hQ dX2_isDigit_17 (by split <;> omega)
theorem dX2_far_0 : decode cX2_far 0 = .ok (.iload_n 0, 1) := by decide +kernel
theorem dX2_far_1 : decode cX2_far 1 = .ok (.ifCond .ge 8, 3) := by decide +kernel
theorem dX2_far_4 : decode cX2_far 4 = .ok (.iload_n 0, 1) := by decide +kernel
theorem dX2_far_5 : decode cX2_far 5 = .ok (.ineg, 1) := by decide +kernel
theorem dX2_far_6 : decode cX2_far 6 = .ok (.goto 4, 3) := by decide +kernel
theorem dX2_far_9 : decode cX2_far 9 = .ok (.iload_n 0, 1) := by decide +kernel
theorem dX2_far_10 : decode cX2_far 10 = .ok (.ireturn, 1) := by decide +kernel
set_option maxHeartbeats 4000000 in
theorem met_far (l : Launch) (v : Int) (rv : R32 v) : SM l yX2_far cX2_far 1 (some .int) (mrm 0) [.int (iI v)] (vp_Si (fun r => r = iI (if v < 0 then -v else v))) := by
  refine s_start (by decide) rfl (Nat.le_of_ble_eq_true rfl) ?_
  intro p e R s m args below meth c ls Q hR hQ hC hml hr hlk hl
  have hx := hC.1
  have hb := hC.2.1
  have hown := hC.2.2.1
  have hts := hC.2.2.2
  have hl : lv_has ls 1 [(0, .int (iI v))] := hl
  refine lv_iload_n hx hb dX2_far_0 rfl (lv_at hl 0 rfl) ?_
  refine r_if_ge (tgt := 9) hx hb dX2_far_1 (by decide) rv (fun c1 => ?_) (fun c1 => ?_)
  · refine lv_iload_n hx hb dX2_far_9 rfl (lv_at hl 0 rfl) ?_
    exact s_iret hC hr hlk hQ dX2_far_10 (by split <;> omega)
  · refine lv_iload_n hx hb dX2_far_4 rfl (lv_at hl 0 rfl) ?_
    refine r_ineg hx hb dX2_far_5 ?_
    refine lv_goto (tgt := 10) hx hb dX2_far_6 (by decide) ?_
    exact s_iret hC hr hlk hQ dX2_far_10 (by split <;> omega)
