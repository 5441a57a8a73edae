/-! THE COMPONENT: what a mark does -/
set_option maxRecDepth 100000
theorem dX10_does_0 : decode cX10_does 0 = .ok (.aload_n 1, 1) := by decide +kernel
theorem dX10_does_1 : decode cX10_does 1 = .ok (.iload_n 2, 1) := by decide +kernel
theorem dX10_does_2 : decode cX10_does 2 = .ok (.aload_n 0, 1) := by decide +kernel
theorem dX10_does_3 : decode cX10_does 3 = .ok (.getfield 13, 3) := by decide +kernel
theorem dX10_does_6 : decode cX10_does 6 = .ok (.ifCond .eq 12, 3) := by decide +kernel
theorem dX10_does_18 : decode cX10_does 18 = .ok (.aload_n 0, 1) := by decide +kernel
theorem dX10_does_19 : decode cX10_does 19 = .ok (.getfield 7, 3) := by decide +kernel
theorem dX10_does_22 : decode cX10_does 22 = .ok (.iastore, 1) := by decide +kernel
theorem dX10_does_23 : decode cX10_does 23 = .ok (.iload_n 2, 1) := by decide +kernel
theorem dX10_does_24 : decode cX10_does 24 = .ok (.iconst 1, 1) := by decide +kernel
theorem dX10_does_25 : decode cX10_does 25 = .ok (.iadd, 1) := by decide +kernel
theorem dX10_does_26 : decode cX10_does 26 = .ok (.ireturn, 1) := by decide +kernel
set_option maxHeartbeats 4000000 in
theorem cvdoes0 (l : Launch) (adK adV st : Nat → Nat) (D : va_G) (E : Nat → ClassId) (A : Nat → Prop) (ad nv : Nat → Nat) (I : Nat → Int) (F : Nat → Int → Int) (S : Nat → Nat → Int) (Y : Nat → Int → Int) (L : Nat → Nat) (r : Nat) (hrV : cV nv F S r) (ww top : Int) (ht : 0 ≤ top ∧ top < 48) (hrc : cC E ad I F S Y L r = .inr (9, [.int (iI ww), .int (iI 0)])) : CM l yX10_does cX10_does 4 (some .int) (mrm 0) adK adV st D E A ad nv [.ref (ad r), .ref (ad 2), .int (iI top), .ref (ad 3)] I F S Y L (CQi D E A ad nv L (fun z I1 F1 S1 Y1 => stpT 0 top = z ∧ I = I1 ∧ F = F1 ∧ S = S1 ∧ va_up Y 2 (stpH 0 ww (Y 3) (Y 2) top) = Y1)) := by
  refine c_start (by decide) rfl (Nat.le_of_ble_eq_true rfl) ?_
  intro p e R s m args below meth c ls Q hR hQ hCK hml hr hlk hG hS hE hl
  have hx := hCK.1
  have hb := hCK.2.1
  have hown := hCK.2.2.1
  have hts := hCK.2.2.2.1
  have hK := hCK.2.2.2.2
  have hl : lv_has ls 4 [(0, .ref (ad r)), (1, .ref (ad 2)), (2, .int (iI top)), (3, .ref (ad 3))] := hl
  refine lv_aload_n hx hb dX10_does_0 rfl (lv_at hl 1 rfl) ?_
  refine lv_iload_n hx hb dX10_does_1 rfl (lv_at hl 2 rfl) ?_
  refine lv_aload_n hx hb dX10_does_2 rfl (lv_at hl 0 rfl) ?_
  refine g_get hCK hG r hrV hrc (ci := 9) rfl in_X10 1 (by decide) q605 rfl rfl dX10_does_3 ?_
  refine W.eq (g2 := F0 m 6 ls [.int (iI 0), .int (iI top), .ref (ad 2)]) rfl ?_
  refine r_if_eq (tgt := 18) hx hb dX10_does_6 (by decide) (by decide) (fun c1 => ?_) (fun c1 => absurd c1 (by decide))
  refine lv_aload_n hx hb dX10_does_18 rfl (lv_at hl 0 rfl) ?_
  refine g_get hCK hG r hrV hrc (ci := 9) rfl in_X10 0 (by decide) q604 rfl rfl dX10_does_19 ?_
  refine W.eq (g2 := F0 m 22 ls [.int (iI ww), .int (iI top), .ref (ad 2)]) rfl ?_
  refine cs_2 (z := top) (v := ww) hCK hG hS (by omega) dX10_does_22 (fun H locs hG hS => ?_)
  have hG : CW D E A ad nv I F S (va_up Y 2 (updZ (Y 2) top ww)) L H := hG
  refine lv_iload_n hx hb dX10_does_23 rfl (lv_at hl 2 rfl) ?_
  refine r_iconst hx hb dX10_does_24 ?_
  refine r_iadd hx hb dX10_does_25 ?_
  exact c_iret hCK hQ hr hlk hG hS dX10_does_26 (⟨rfl, rfl, rfl, rfl, rfl⟩)
theorem dX10_does_9 : decode cX10_does 9 = .ok (.aload_n 3, 1) := by decide +kernel
theorem dX10_does_10 : decode cX10_does 10 = .ok (.aload_n 0, 1) := by decide +kernel
theorem dX10_does_11 : decode cX10_does 11 = .ok (.getfield 7, 3) := by decide +kernel
theorem dX10_does_14 : decode cX10_does 14 = .ok (.iaload, 1) := by decide +kernel
theorem dX10_does_15 : decode cX10_does 15 = .ok (.goto 7, 3) := by decide +kernel
set_option maxHeartbeats 4000000 in
theorem cvdoes1 (l : Launch) (adK adV st : Nat → Nat) (D : va_G) (E : Nat → ClassId) (A : Nat → Prop) (ad nv : Nat → Nat) (I : Nat → Int) (F : Nat → Int → Int) (S : Nat → Nat → Int) (Y : Nat → Int → Int) (L : Nat → Nat) (r : Nat) (hrV : cV nv F S r) (ww top : Int) (ht : 0 ≤ top ∧ top < 48) (hw : 0 ≤ ww ∧ ww ≤ 6) (hrc : cC E ad I F S Y L r = .inr (9, [.int (iI ww), .int (iI 1)])) : CM l yX10_does cX10_does 4 (some .int) (mrm 0) adK adV st D E A ad nv [.ref (ad r), .ref (ad 2), .int (iI top), .ref (ad 3)] I F S Y L (CQi D E A ad nv L (fun z I1 F1 S1 Y1 => stpT 1 top = z ∧ I = I1 ∧ F = F1 ∧ S = S1 ∧ va_up Y 2 (stpH 1 ww (Y 3) (Y 2) top) = Y1)) := by
  refine c_start (by decide) rfl (Nat.le_of_ble_eq_true rfl) ?_
  intro p e R s m args below meth c ls Q hR hQ hCK hml hr hlk hG hS hE hl
  have hx := hCK.1
  have hb := hCK.2.1
  have hown := hCK.2.2.1
  have hts := hCK.2.2.2.1
  have hK := hCK.2.2.2.2
  have hl : lv_has ls 4 [(0, .ref (ad r)), (1, .ref (ad 2)), (2, .int (iI top)), (3, .ref (ad 3))] := hl
  refine lv_aload_n hx hb dX10_does_0 rfl (lv_at hl 1 rfl) ?_
  refine lv_iload_n hx hb dX10_does_1 rfl (lv_at hl 2 rfl) ?_
  refine lv_aload_n hx hb dX10_does_2 rfl (lv_at hl 0 rfl) ?_
  refine g_get hCK hG r hrV hrc (ci := 9) rfl in_X10 1 (by decide) q605 rfl rfl dX10_does_3 ?_
  refine W.eq (g2 := F0 m 6 ls [.int (iI 1), .int (iI top), .ref (ad 2)]) rfl ?_
  refine r_if_eq (tgt := 18) hx hb dX10_does_6 (by decide) (by decide) (fun c1 => absurd c1 (by decide)) (fun c1 => ?_)
  refine lv_aload_n hx hb dX10_does_9 rfl (lv_at hl 3 rfl) ?_
  refine lv_aload_n hx hb dX10_does_10 rfl (lv_at hl 0 rfl) ?_
  refine g_get hCK hG r hrV hrc (ci := 9) rfl in_X10 0 (by decide) q604 rfl rfl dX10_does_11 ?_
  refine W.eq (g2 := F0 m 14 ls [.int (iI ww), .ref (ad 3), .int (iI top), .ref (ad 2)]) rfl ?_
  refine cl_3 (v := (Y 3) ww) hCK hG (by omega) rfl dX10_does_14 ?_
  refine lv_goto (tgt := 22) hx hb dX10_does_15 (by decide) ?_
  refine cs_2 (z := top) (v := (Y 3) ww) hCK hG hS (by omega) dX10_does_22 (fun H locs hG hS => ?_)
  have hG : CW D E A ad nv I F S (va_up Y 2 (updZ (Y 2) top ((Y 3) ww))) L H := hG
  refine lv_iload_n hx hb dX10_does_23 rfl (lv_at hl 2 rfl) ?_
  refine r_iconst hx hb dX10_does_24 ?_
  refine r_iadd hx hb dX10_does_25 ?_
  exact c_iret hCK hQ hr hlk hG hS dX10_does_26 (⟨rfl, rfl, rfl, rfl, rfl⟩)
theorem dX8_does_0 : decode cX8_does 0 = .ok (.aload_n 0, 1) := by decide +kernel
theorem dX8_does_1 : decode cX8_does 1 = .ok (.getfield 9, 3) := by decide +kernel
theorem dX8_does_4 : decode cX8_does 4 = .ok (.bipush 33, 2) := by decide +kernel
theorem dX8_does_6 : decode cX8_does 6 = .ok (.if_icmp .ne 17, 3) := by decide +kernel
theorem dX8_does_23 : decode cX8_does 23 = .ok (.aload_n 1, 1) := by decide +kernel
theorem dX8_does_24 : decode cX8_does 24 = .ok (.iload_n 2, 1) := by decide +kernel
theorem dX8_does_25 : decode cX8_does 25 = .ok (.iconst 2, 1) := by decide +kernel
theorem dX8_does_26 : decode cX8_does 26 = .ok (.isub, 1) := by decide +kernel
theorem dX8_does_27 : decode cX8_does 27 = .ok (.aload_n 0, 1) := by decide +kernel
theorem dX8_does_28 : decode cX8_does 28 = .ok (.aload_n 1, 1) := by decide +kernel
theorem dX8_does_29 : decode cX8_does 29 = .ok (.iload_n 2, 1) := by decide +kernel
theorem dX8_does_30 : decode cX8_does 30 = .ok (.iconst 2, 1) := by decide +kernel
theorem dX8_does_31 : decode cX8_does 31 = .ok (.isub, 1) := by decide +kernel
theorem dX8_does_32 : decode cX8_does 32 = .ok (.iaload, 1) := by decide +kernel
theorem dX8_does_33 : decode cX8_does 33 = .ok (.aload_n 1, 1) := by decide +kernel
theorem dX8_does_34 : decode cX8_does 34 = .ok (.iload_n 2, 1) := by decide +kernel
theorem dX8_does_35 : decode cX8_does 35 = .ok (.iconst 1, 1) := by decide +kernel
theorem dX8_does_36 : decode cX8_does 36 = .ok (.isub, 1) := by decide +kernel
theorem dX8_does_37 : decode cX8_does 37 = .ok (.iaload, 1) := by decide +kernel
theorem dX8_does_38 : decode cX8_does 38 = .ok (.invokevirtual 32, 3) := by decide +kernel
theorem dX8_does_41 : decode cX8_does 41 = .ok (.iastore, 1) := by decide +kernel
theorem dX8_does_42 : decode cX8_does 42 = .ok (.iload_n 2, 1) := by decide +kernel
theorem dX8_does_43 : decode cX8_does 43 = .ok (.iconst 1, 1) := by decide +kernel
theorem dX8_does_44 : decode cX8_does 44 = .ok (.isub, 1) := by decide +kernel
theorem dX8_does_45 : decode cX8_does 45 = .ok (.ireturn, 1) := by decide +kernel
set_option maxHeartbeats 4000000 in
theorem csdoes (l : Launch) (adK adV st : Nat → Nat) (D : va_G) (E : Nat → ClassId) (A : Nat → Prop) (ad nv : Nat → Nat) (I : Nat → Int) (F : Nat → Int → Int) (S : Nat → Nat → Int) (Y : Nat → Int → Int) (L : Nat → Nat) (r : Nat) (hrV : cV nv F S r) (d ww top : Int) (hd : 2 ≤ d ∧ d ≤ 10) (ht : 2 ≤ top ∧ top ≤ 48) (ba : -1000000 ≤ Y 2 (top - 2) ∧ Y 2 (top - 2) ≤ 1000000) (bb : -1000000 ≤ Y 2 (top - 1) ∧ Y 2 (top - 1) ≤ 1000000) (h9 : 9 ≤ d → (Y 2 (top - 2) = 0 ∨ Y 2 (top - 2) = 1) ∧ (Y 2 (top - 1) = 0 ∨ Y 2 (top - 1) = 1)) (hrc : cC E ad I F S Y L r = .inr (7, [.int (iI (sgO d))])) : CM l yX8_does cX8_does 4 (some .int) (mrm 3) adK adV st D E A ad nv [.ref (ad r), .ref (ad 2), .int (iI top), .ref (ad 3)] I F S Y L (CQi D E A ad nv L (fun z I1 F1 S1 Y1 => stpT d top = z ∧ I = I1 ∧ F = F1 ∧ S = S1 ∧ va_up Y 2 (stpH d ww (Y 3) (Y 2) top) = Y1)) := by
  refine c_start (by decide) rfl (Nat.le_of_ble_eq_true rfl) ?_
  intro p e R s m args below meth c ls Q hR hQ hCK hml hr hlk hG hS hE hl
  have hx := hCK.1
  have hb := hCK.2.1
  have hown := hCK.2.2.1
  have hts := hCK.2.2.2.1
  have hK := hCK.2.2.2.2
  have hl : lv_has ls 4 [(0, .ref (ad r)), (1, .ref (ad 2)), (2, .int (iI top)), (3, .ref (ad 3))] := hl
  have hsg : 38 ≤ sgO d ∧ sgO d ≤ 124 := by
    unfold sgO
    repeat' split
    all_goals omega
  refine lv_aload_n hx hb dX8_does_0 rfl (lv_at hl 0 rfl) ?_
  refine g_get hCK hG r hrV hrc (ci := 7) rfl in_X8 0 (by decide) q524 rfl rfl dX8_does_1 ?_
  refine W.eq (g2 := F0 m 4 ls [.int (iI (sgO d))]) rfl ?_
  refine r_bipush hx hb dX8_does_4 (by decide) ?_
  refine r_icmp_ne (tgt := 23) hx hb dX8_does_6 (by decide) (by omega) (by decide) (fun c1 => ?_) (fun c1 => absurd c1 (by omega))
  refine lv_aload_n hx hb dX8_does_23 rfl (lv_at hl 1 rfl) ?_
  refine lv_iload_n hx hb dX8_does_24 rfl (lv_at hl 2 rfl) ?_
  refine r_iconst hx hb dX8_does_25 ?_
  refine r_isub hx hb dX8_does_26 ?_
  refine lv_aload_n hx hb dX8_does_27 rfl (lv_at hl 0 rfl) ?_
  refine lv_aload_n hx hb dX8_does_28 rfl (lv_at hl 1 rfl) ?_
  refine lv_iload_n hx hb dX8_does_29 rfl (lv_at hl 2 rfl) ?_
  refine r_iconst hx hb dX8_does_30 ?_
  refine r_isub hx hb dX8_does_31 ?_
  refine cl_2 (v := (Y 2) (top - 2)) hCK hG (by omega) rfl dX8_does_32 ?_
  refine lv_aload_n hx hb dX8_does_33 rfl (lv_at hl 1 rfl) ?_
  refine lv_iload_n hx hb dX8_does_34 rfl (lv_at hl 2 rfl) ?_
  refine r_iconst hx hb dX8_does_35 ?_
  refine r_isub hx hb dX8_does_36 ?_
  refine cl_2 (v := (Y 2) (top - 1)) hCK hG (by omega) rfl dX8_does_37 ?_
  refine s_calli (j_runV (n := 2) (C := RX8) (b := ad r) (rest := [.int (iI (top - 2)), .ref (ad 2)]) (as := [.int (iI ((Y 2) (top - 2))), .int (iI ((Y 2) (top - 1)))]) hx hb hml hown hts (csof l adK adV st D E A ad nv I F S Y L r hrV d hd ((Y 2) (top - 2)) ((Y 2) (top - 1)) ba bb h9 hrc) GB.blind (GB.at hK hG hE hS) (g_rec (r := r) (ci := 7) hK hG hrV rfl hrc) q882 q884 qs27 q85 q885 (by decide +kernel) ⟨rfl, rfl⟩ hR (by decide) ⟨Nat.zero_le _, Nat.zero_le _⟩ rfl hl.1 rfl (Nat.le_of_ble_eq_true rfl) dX8_does_38) ?_
  refine cs_2 (z := top - 2) (v := ofS d ((Y 2) (top - 2)) ((Y 2) (top - 1))) hCK hG hS (by omega) dX8_does_41 (fun H locs hG hS => ?_)
  have hG : CW D E A ad nv I F S (va_up Y 2 (updZ (Y 2) (top - 2) (ofS d ((Y 2) (top - 2)) ((Y 2) (top - 1))))) L H := hG
  refine lv_iload_n hx hb dX8_does_42 rfl (lv_at hl 2 rfl) ?_
  refine r_iconst hx hb dX8_does_43 ?_
  refine r_isub hx hb dX8_does_44 ?_
  exact c_iret hCK hQ hr hlk hG hS dX8_does_45 (⟨by unfold stpT; rw [if_neg (by omega), if_neg (by omega)], rfl, rfl, rfl, by unfold stpH; rw [if_neg (by omega), if_neg (by omega), if_neg (by omega)]⟩)
theorem dX8_does_9 : decode cX8_does 9 = .ok (.aload_n 1, 1) := by decide +kernel
theorem dX8_does_10 : decode cX8_does 10 = .ok (.iload_n 2, 1) := by decide +kernel
theorem dX8_does_11 : decode cX8_does 11 = .ok (.iconst 1, 1) := by decide +kernel
theorem dX8_does_12 : decode cX8_does 12 = .ok (.isub, 1) := by decide +kernel
theorem dX8_does_13 : decode cX8_does 13 = .ok (.iconst 1, 1) := by decide +kernel
theorem dX8_does_14 : decode cX8_does 14 = .ok (.aload_n 1, 1) := by decide +kernel
theorem dX8_does_15 : decode cX8_does 15 = .ok (.iload_n 2, 1) := by decide +kernel
theorem dX8_does_16 : decode cX8_does 16 = .ok (.iconst 1, 1) := by decide +kernel
theorem dX8_does_17 : decode cX8_does 17 = .ok (.isub, 1) := by decide +kernel
theorem dX8_does_18 : decode cX8_does 18 = .ok (.iaload, 1) := by decide +kernel
theorem dX8_does_19 : decode cX8_does 19 = .ok (.isub, 1) := by decide +kernel
theorem dX8_does_20 : decode cX8_does 20 = .ok (.iastore, 1) := by decide +kernel
theorem dX8_does_21 : decode cX8_does 21 = .ok (.iload_n 2, 1) := by decide +kernel
theorem dX8_does_22 : decode cX8_does 22 = .ok (.ireturn, 1) := by decide +kernel
set_option maxHeartbeats 4000000 in
theorem csnot (l : Launch) (adK adV st : Nat → Nat) (D : va_G) (E : Nat → ClassId) (A : Nat → Prop) (ad nv : Nat → Nat) (I : Nat → Int) (F : Nat → Int → Int) (S : Nat → Nat → Int) (Y : Nat → Int → Int) (L : Nat → Nat) (r : Nat) (hrV : cV nv F S r) (ww top : Int) (ht : 1 ≤ top ∧ top ≤ 48) (hrc : cC E ad I F S Y L r = .inr (7, [.int (iI 33)])) : CM l yX8_does cX8_does 4 (some .int) (mrm 0) adK adV st D E A ad nv [.ref (ad r), .ref (ad 2), .int (iI top), .ref (ad 3)] I F S Y L (CQi D E A ad nv L (fun z I1 F1 S1 Y1 => stpT 11 top = z ∧ I = I1 ∧ F = F1 ∧ S = S1 ∧ va_up Y 2 (stpH 11 ww (Y 3) (Y 2) top) = Y1)) := by
  refine c_start (by decide) rfl (Nat.le_of_ble_eq_true rfl) ?_
  intro p e R s m args below meth c ls Q hR hQ hCK hml hr hlk hG hS hE hl
  have hx := hCK.1
  have hb := hCK.2.1
  have hown := hCK.2.2.1
  have hts := hCK.2.2.2.1
  have hK := hCK.2.2.2.2
  have hl : lv_has ls 4 [(0, .ref (ad r)), (1, .ref (ad 2)), (2, .int (iI top)), (3, .ref (ad 3))] := hl
  refine lv_aload_n hx hb dX8_does_0 rfl (lv_at hl 0 rfl) ?_
  refine g_get hCK hG r hrV hrc (ci := 7) rfl in_X8 0 (by decide) q524 rfl rfl dX8_does_1 ?_
  refine W.eq (g2 := F0 m 4 ls [.int (iI 33)]) rfl ?_
  refine r_bipush hx hb dX8_does_4 (by decide) ?_
  refine r_icmp_ne (tgt := 23) hx hb dX8_does_6 (by decide) (by decide) (by decide) (fun c1 => absurd c1 (by decide)) (fun c1 => ?_)
  refine lv_aload_n hx hb dX8_does_9 rfl (lv_at hl 1 rfl) ?_
  refine lv_iload_n hx hb dX8_does_10 rfl (lv_at hl 2 rfl) ?_
  refine r_iconst hx hb dX8_does_11 ?_
  refine r_isub hx hb dX8_does_12 ?_
  refine r_iconst hx hb dX8_does_13 ?_
  refine lv_aload_n hx hb dX8_does_14 rfl (lv_at hl 1 rfl) ?_
  refine lv_iload_n hx hb dX8_does_15 rfl (lv_at hl 2 rfl) ?_
  refine r_iconst hx hb dX8_does_16 ?_
  refine r_isub hx hb dX8_does_17 ?_
  refine cl_2 (v := (Y 2) (top - 1)) hCK hG (by omega) rfl dX8_does_18 ?_
  refine r_isub hx hb dX8_does_19 ?_
  refine cs_2 (z := top - 1) (v := 1 - ((Y 2) (top - 1))) hCK hG hS (by omega) dX8_does_20 (fun H locs hG hS => ?_)
  have hG : CW D E A ad nv I F S (va_up Y 2 (updZ (Y 2) (top - 1) (1 - ((Y 2) (top - 1))))) L H := hG
  refine lv_iload_n hx hb dX8_does_21 rfl (lv_at hl 2 rfl) ?_
  exact c_iret hCK hQ hr hlk hG hS dX8_does_22 (⟨rfl, rfl, rfl, rfl, rfl⟩)
