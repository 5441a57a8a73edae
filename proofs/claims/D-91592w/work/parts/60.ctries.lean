/-! THE COMPONENT: ticks that are tried -/
set_option maxRecDepth 100000
theorem dX0_tries_0 : decode cX0_tries 0 = .ok (.aload_n 0, 1) := by decide +kernel
theorem dX0_tries_1 : decode cX0_tries 1 = .ok (.getfield 72, 3) := by decide +kernel
theorem dX0_tries_4 : decode cX0_tries 4 = .ok (.aload_n 0, 1) := by decide +kernel
theorem dX0_tries_5 : decode cX0_tries 5 = .ok (.getfield 68, 3) := by decide +kernel
theorem dX0_tries_8 : decode cX0_tries 8 = .ok (.invokevirtual 300, 3) := by decide +kernel
theorem dX0_tries_11 : decode cX0_tries 11 = .ok (.aload_n 0, 1) := by decide +kernel
theorem dX0_tries_12 : decode cX0_tries 12 = .ok (.getfield 72, 3) := by decide +kernel
theorem dX0_tries_15 : decode cX0_tries 15 = .ok (.iload_n 1, 1) := by decide +kernel
theorem dX0_tries_16 : decode cX0_tries 16 = .ok (.invokevirtual 304, 3) := by decide +kernel
theorem dX0_tries_19 : decode cX0_tries 19 = .ok (.return_, 1) := by decide +kernel
set_option maxHeartbeats 4000000 in
theorem ctries (l : Launch) (adK adV st : Nat → Nat) (D : va_G) (E : Nat → ClassId) (A : Nat → Prop) (ad nv : Nat → Nat) (I : Nat → Int) (F : Nat → Int → Int) (S : Nat → Nat → Int) (Y : Nat → Int → Int) (L : Nat → Nat) (nn : Int) (hnn : 0 ≤ nn ∧ nn ≤ 120) (hn : cOK nv I L) (gh0 : gHull I F) (gl0 : gLoad I F) (gm0 : gMark I F) (gs0 : gSea I F) (gt0 : gSet I) (gr0 : gRule F) (hru : S 0 2 = 0 → F 64 0 = -1 ∧ F 64 1 = -1) (gsh : gShip (S 19 7) (shJ S 19) (shG Y 21 22 23 24)) (ht : 0 ≤ S 19 7 ∧ S 19 7 ≤ 600) : CM l yX0_tries cX0_tries 2 none (mrm 10) adK adV st D E A ad nv [.ref (ad 0), .int (iI nn)] I F S Y L (CQv D E A ad nv L (fun I1 F1 S1 Y1 => I = I1 ∧ F = F1 ∧ (∃ J t, shpS S 20 J t (trN I F (I 25) nn.toNat (S 19 7) (shJ S 19) (shG Y 21 22 23 24) (absI (S 19 4))).2 = S1 ∧ ∀ k, k < 5 → J k = (trN I F (I 25) nn.toNat (S 19 7) (shJ S 19) (shG Y 21 22 23 24) (absI (S 19 4))).1 k) ∧ ∃ G g g1, shpY Y 25 26 27 28 G g g1 = Y1)) := by
  refine c_start (by decide) rfl (Nat.le_of_ble_eq_true rfl) ?_
  intro p e R s m args below meth c ls Q hR hQ hCK hml hr hlk hG hS hE hl
  have hx := hCK.1
  have hb := hCK.2.1
  have hown := hCK.2.2.1
  have hts := hCK.2.2.2.1
  have hK := hCK.2.2.2.2
  have hl : lv_has ls 2 [(0, .ref (ad 0)), (1, .int (iI nn))] := hl
  have b28 : -80 ≤ S 19 4 ∧ S 19 4 ≤ 80 := gsh.1
  have bo : 0 ≤ S 19 11 ∧ S 19 11 ≤ 1 := gsh.2.2.2.2.1
  have gw0 : Bd (Y 24) 6 0 1 := gsh.2.2.2.2.2.2
  refine lv_aload_n hx hb dX0_tries_0 rfl (lv_at hl 0 rfl) ?_
  refine cg_X0_72 hCK hG dX0_tries_1 ?_
  refine lv_aload_n hx hb dX0_tries_4 rfl (lv_at hl 0 rfl) ?_
  refine cg_X0_68 hCK hG dX0_tries_5 ?_
  refine c_callv (c_run (n := 1) (C0 := RX1) (b := ad 20) (rest := []) (as := [.ref (ad 19)]) hCK hE hml (ccopy l adK adV st D E A ad nv I F S Y L b28 gw0 bo) (g_rec (r := 20) (ci := 1) hK hG (Or.inl (by omega)) rfl (cC_s (Or.inr rfl))) q939 q940 q941 q72 q942 (by decide +kernel) ⟨rfl, rfl⟩ hR (by decide) ⟨Nat.zero_le _, Nat.zero_le _⟩ hG hS rfl hl.1 rfl (Nat.le_of_ble_eq_true rfl) dX0_tries_8) hS (fun I2 F3 S4 Y5 H locs hp6 hG hS => ?_)
  obtain ⟨rfl, rfl, rfl, rfl⟩ := hp6
  have hG : CW D E A ad nv I F (up2 (up2 (up2 (up2 (up2 (up2 (up2 S 20 4 (S 19 4)) 20 5 (S 19 5)) 20 7 (S 19 7)) 20 8 (S 19 8)) 20 9 (S 19 9)) 20 11 (S 19 11)) 20 10 (absI (S 19 4))) (va_up (va_up (va_up (va_up Y 25 (Y 21)) 26 (Y 22)) 27 (Y 23)) 28 (Y 24)) L H := hG
  have eS : shpS S 20 (fun k => if k = 0 then S 19 4 else if k = 1 then S 19 5 else if k = 2 then S 19 8 else if k = 3 then S 19 9 else if k = 4 then S 19 11 else if k = 5 then S 20 6 else S 20 12) (S 19 7) (absI (S 19 4)) = up2 (up2 (up2 (up2 (up2 (up2 (up2 S 20 4 (S 19 4)) 20 5 (S 19 5)) 20 7 (S 19 7)) 20 8 (S 19 8)) 20 9 (S 19 9)) 20 11 (S 19 11)) 20 10 (absI (S 19 4)) := shpS_ext rfl rfl rfl rfl rfl rfl rfl rfl rfl (fun k hk => by simp [up2, va_up, show k ≠ 4 by omega, show k ≠ 5 by omega, show k ≠ 6 by omega, show k ≠ 7 by omega, show k ≠ 8 by omega, show k ≠ 9 by omega, show k ≠ 10 by omega, show k ≠ 11 by omega, show k ≠ 12 by omega]) (fun r hr => by repeat rw [up2_ne hr])
  have eY : shpY Y 25 26 27 28 (shG Y 21 22 23 24) (Y 3) (Y 2) = va_up (va_up (va_up (va_up Y 25 (Y 21)) 26 (Y 22)) 27 (Y 23)) 28 (Y 24) := shpY_ext rfl rfl rfl rfl rfl rfl (fun r n0 n1 n2 n3 n4 n5 => by simp [va_up, n0, n1, n2, n3])
  rw [← eS, ← eY] at hG
  refine lv_aload_n hx hb dX0_tries_11 rfl (lv_at hl 0 rfl) ?_
  refine cg_X0_72 hCK hG dX0_tries_12 ?_
  refine lv_iload_n hx hb dX0_tries_15 rfl (lv_at hl 1 rfl) ?_
  refine c_callv (c_run (n := 1) (C0 := RX1) (b := ad 20) (rest := []) (as := [.int (iI nn)]) hCK hE hml (cgoes_20 l adK adV st D E A ad nv I F (shpS S 20 (fun k => if k = 0 then S 19 4 else if k = 1 then S 19 5 else if k = 2 then S 19 8 else if k = 3 then S 19 9 else if k = 4 then S 19 11 else if k = 5 then S 20 6 else S 20 12) (S 19 7) (absI (S 19 4))) (shpY Y 25 26 27 28 (shG Y 21 22 23 24) (Y 3) (Y 2)) L nn hnn hn gh0 gl0 gm0 gs0 gt0 gr0 hru ⟨gsh.1, gsh.2.1, gsh.2.2.1, gsh.2.2.2.1, gsh.2.2.2.2.1, gsh.2.2.2.2.2.1, gsh.2.2.2.2.2.2⟩ ht (absI_bd gsh.1)) (g_rec (r := 20) (ci := 1) hK hG (Or.inl (by omega)) rfl (cC_s (Or.inr rfl))) q944 q945 q946 q72 q947 (by decide +kernel) ⟨rfl, rfl⟩ hR (by decide) ⟨Nat.zero_le _, Nat.zero_le _⟩ hG hS rfl hl.1 rfl (Nat.le_of_ble_eq_true rfl) dX0_tries_16) hS (fun I8 F9 S10 Y11 H locs hp12 hG hS => ?_)
  obtain ⟨rfl, rfl, ⟨t9, hS9⟩, ⟨G9, g9, g8, hY9⟩⟩ := hp12
  have hS9 : shpS (shpS S 20 (fun k => if k = 0 then S 19 4 else if k = 1 then S 19 5 else if k = 2 then S 19 8 else if k = 3 then S 19 9 else if k = 4 then S 19 11 else if k = 5 then S 20 6 else S 20 12) (S 19 7) (absI (S 19 4))) 20 (trN I F (I 25) nn.toNat (S 19 7) (shJ (shpS S 20 (fun k => if k = 0 then S 19 4 else if k = 1 then S 19 5 else if k = 2 then S 19 8 else if k = 3 then S 19 9 else if k = 4 then S 19 11 else if k = 5 then S 20 6 else S 20 12) (S 19 7) (absI (S 19 4))) 20) (shG (shpY Y 25 26 27 28 (shG Y 21 22 23 24) (Y 3) (Y 2)) 25 26 27 28) (absI (S 19 4))).1 t9 (trN I F (I 25) nn.toNat (S 19 7) (shJ (shpS S 20 (fun k => if k = 0 then S 19 4 else if k = 1 then S 19 5 else if k = 2 then S 19 8 else if k = 3 then S 19 9 else if k = 4 then S 19 11 else if k = 5 then S 20 6 else S 20 12) (S 19 7) (absI (S 19 4))) 20) (shG (shpY Y 25 26 27 28 (shG Y 21 22 23 24) (Y 3) (Y 2)) 25 26 27 28) (absI (S 19 4))).2 = _ := hS9
  have hY9 : shpY (shpY Y 25 26 27 28 (shG Y 21 22 23 24) (Y 3) (Y 2)) 25 26 27 28 G9 g9 g8 = _ := hY9
  rw [shpS_shpS] at hS9
  rw [shpY_shpY] at hY9
  have ecJ := trN_JG (I := I) (F := F) (fi := I 25) nn.toNat (S 19 7) (shJ (shpS S 20 (fun k => if k = 0 then S 19 4 else if k = 1 then S 19 5 else if k = 2 then S 19 8 else if k = 3 then S 19 9 else if k = 4 then S 19 11 else if k = 5 then S 20 6 else S 20 12) (S 19 7) (absI (S 19 4))) 20) (shJ S 19) (shG (shpY Y 25 26 27 28 (shG Y 21 22 23 24) (Y 3) (Y 2)) 25 26 27 28) (shG Y 21 22 23 24) (absI (S 19 4)) (fun k hk => by
    have hc : k = 0 ∨ k = 1 ∨ k = 2 ∨ k = 3 ∨ k = 4 := by omega
    rcases hc with rfl | rfl | rfl | rfl | rfl <;> rfl) (fun k hk => by
    have hc : k = 0 ∨ k = 1 ∨ k = 2 ∨ k = 3 := by omega
    rcases hc with rfl | rfl | rfl | rfl <;> rfl)
  subst hS9
  subst hY9
  have hG : CW D E A ad nv I F (shpS S 20 (trN I F (I 25) nn.toNat (S 19 7) (shJ (shpS S 20 (fun k => if k = 0 then S 19 4 else if k = 1 then S 19 5 else if k = 2 then S 19 8 else if k = 3 then S 19 9 else if k = 4 then S 19 11 else if k = 5 then S 20 6 else S 20 12) (S 19 7) (absI (S 19 4))) 20) (shG (shpY Y 25 26 27 28 (shG Y 21 22 23 24) (Y 3) (Y 2)) 25 26 27 28) (absI (S 19 4))).1 t9 (trN I F (I 25) nn.toNat (S 19 7) (shJ (shpS S 20 (fun k => if k = 0 then S 19 4 else if k = 1 then S 19 5 else if k = 2 then S 19 8 else if k = 3 then S 19 9 else if k = 4 then S 19 11 else if k = 5 then S 20 6 else S 20 12) (S 19 7) (absI (S 19 4))) 20) (shG (shpY Y 25 26 27 28 (shG Y 21 22 23 24) (Y 3) (Y 2)) 25 26 27 28) (absI (S 19 4))).2) (shpY Y 25 26 27 28 G9 g9 g8) L H := hG
  exact c_vret hCK hQ hr hlk hG hS dX0_tries_19 (⟨rfl, rfl, ⟨_, t9, by rw [← ecJ.1], ecJ.2⟩, ⟨_, _, _, rfl⟩⟩)
theorem dX0_tried_0 : decode cX0_tried 0 = .ok (.iload_n 1, 1) := by decide +kernel
theorem dX0_tried_1 : decode cX0_tried 1 = .ok (.i2l, 1) := by decide +kernel
theorem dX0_tried_2 : decode cX0_tried 2 = .ok (.lconst 0, 1) := by decide +kernel
theorem dX0_tried_3 : decode cX0_tried 3 = .ok (.ldc2_w 307, 3) := by decide +kernel
theorem dX0_tried_6 : decode cX0_tried 6 = .ok (.invokestatic 101, 3) := by decide +kernel
theorem dX0_tried_9 : decode cX0_tried 9 = .ok (.ifCond .eq 15, 3) := by decide +kernel
theorem dX0_tried_12 : decode cX0_tried 12 = .ok (.iload_n 2, 1) := by decide +kernel
theorem dX0_tried_13 : decode cX0_tried 13 = .ok (.i2l, 1) := by decide +kernel
theorem dX0_tried_14 : decode cX0_tried 14 = .ok (.lconst 0, 1) := by decide +kernel
theorem dX0_tried_15 : decode cX0_tried 15 = .ok (.ldc2_w 222, 3) := by decide +kernel
theorem dX0_tried_18 : decode cX0_tried 18 = .ok (.invokestatic 101, 3) := by decide +kernel
theorem dX0_tried_21 : decode cX0_tried 21 = .ok (.ifCond .ne 5, 3) := by decide +kernel
theorem dX0_tried_24 : decode cX0_tried 24 = .ok (.iconst (-1), 1) := by decide +kernel
theorem dX0_tried_25 : decode cX0_tried 25 = .ok (.ireturn, 1) := by decide +kernel
theorem dX0_tried_26 : decode cX0_tried 26 = .ok (.aload_n 0, 1) := by decide +kernel
theorem dX0_tried_27 : decode cX0_tried 27 = .ok (.iload_n 1, 1) := by decide +kernel
theorem dX0_tried_28 : decode cX0_tried 28 = .ok (.invokevirtual 309, 3) := by decide +kernel
theorem dX0_tried_31 : decode cX0_tried 31 = .ok (.iload_n 2, 1) := by decide +kernel
theorem dX0_tried_32 : decode cX0_tried 32 = .ok (.ifCond .ne 13, 3) := by decide +kernel
theorem dX0_tried_35 : decode cX0_tried 35 = .ok (.aload_n 0, 1) := by decide +kernel
theorem dX0_tried_36 : decode cX0_tried 36 = .ok (.getfield 72, 3) := by decide +kernel
theorem dX0_tried_39 : decode cX0_tried 39 = .ok (.getfield 312, 3) := by decide +kernel
theorem dX0_tried_42 : decode cX0_tried 42 = .ok (.goto 25, 3) := by decide +kernel
theorem dX0_tried_45 : decode cX0_tried 45 = .ok (.iload_n 2, 1) := by decide +kernel
theorem dX0_tried_46 : decode cX0_tried 46 = .ok (.iconst 1, 1) := by decide +kernel
theorem dX0_tried_47 : decode cX0_tried 47 = .ok (.if_icmp .ne 13, 3) := by decide +kernel
theorem dX0_tried_50 : decode cX0_tried 50 = .ok (.aload_n 0, 1) := by decide +kernel
theorem dX0_tried_51 : decode cX0_tried 51 = .ok (.getfield 72, 3) := by decide +kernel
theorem dX0_tried_54 : decode cX0_tried 54 = .ok (.getfield 315, 3) := by decide +kernel
theorem dX0_tried_57 : decode cX0_tried 57 = .ok (.goto 10, 3) := by decide +kernel
theorem dX0_tried_60 : decode cX0_tried 60 = .ok (.aload_n 0, 1) := by decide +kernel
theorem dX0_tried_61 : decode cX0_tried 61 = .ok (.getfield 72, 3) := by decide +kernel
theorem dX0_tried_64 : decode cX0_tried 64 = .ok (.getfield 318, 3) := by decide +kernel
theorem dX0_tried_67 : decode cX0_tried 67 = .ok (.ireturn, 1) := by decide +kernel
set_option maxHeartbeats 4000000 in
theorem ctried (l : Launch) (adK adV st : Nat → Nat) (D : va_G) (E : Nat → ClassId) (A : Nat → Prop) (ad nv : Nat → Nat) (I : Nat → Int) (F : Nat → Int → Int) (S : Nat → Nat → Int) (Y : Nat → Int → Int) (L : Nat → Nat) (nn wh : Int) (r_n : R32 nn) (r_w : R32 wh) (hn : cOK nv I L) (gh0 : gHull I F) (gl0 : gLoad I F) (gm0 : gMark I F) (gs0 : gSea I F) (gt0 : gSet I) (gr0 : gRule F) (hru : S 0 2 = 0 → F 64 0 = -1 ∧ F 64 1 = -1) (gsh : gShip (S 19 7) (shJ S 19) (shG Y 21 22 23 24)) (ht : 0 ≤ S 19 7 ∧ S 19 7 ≤ 600) : CM l yX0_tried cX0_tried 3 (some .int) (mrm 11) adK adV st D E A ad nv [.ref (ad 0), .int (iI nn), .int (iI wh)] I F S Y L (CQi D E A ad nv L (fun z I1 F1 S1 Y1 => (if (0 ≤ nn ∧ nn ≤ 120) ∧ (0 ≤ wh ∧ wh ≤ 2) then (if wh = 0 then (trN I F (I 25) nn.toNat (S 19 7) (shJ S 19) (shG Y 21 22 23 24) (absI (S 19 4))).2 else if wh = 1 then (trN I F (I 25) nn.toNat (S 19 7) (shJ S 19) (shG Y 21 22 23 24) (absI (S 19 4))).1 2 else (trN I F (I 25) nn.toNat (S 19 7) (shJ S 19) (shG Y 21 22 23 24) (absI (S 19 4))).1 3) else -1) = z ∧ I = I1 ∧ F = F1 ∧ (∃ J t gr, shpS S 20 J t gr = S1) ∧ ∃ G g g1, shpY Y 25 26 27 28 G g g1 = Y1)) := by
  refine c_start (by decide) rfl (Nat.le_of_ble_eq_true rfl) ?_
  intro p e R s m args below meth c ls Q hR hQ hCK hml hr hlk hG hS hE hl
  have hx := hCK.1
  have hb := hCK.2.1
  have hown := hCK.2.2.1
  have hts := hCK.2.2.2.1
  have hK := hCK.2.2.2.2
  have hl : lv_has ls 3 [(0, .ref (ad 0)), (1, .int (iI nn)), (2, .int (iI wh))] := hl
  refine lv_iload_n hx hb dX0_tried_0 rfl (lv_at hl 1 rfl) ?_
  refine r_i2l hx hb dX0_tried_1 r_n ?_
  refine r_lconst hx hb 0 dX0_tried_2 (by decide) ?_
  refine r_ldc2 hx hb 120 hown (hts _ q934) (by decide) dX0_tried_3 ?_
  refine s_calli (j_runS (n := 3) (rest := []) (as := [.long (iL nn), .long (iL 0), .long (iL 120)]) hx hb hml hown hts ((cin l nn 0 120 (by omega) (by decide) (by decide)).jm) (fun _ _ _ _ _ => trivial) (fun _ _ _ => trivial) q296 q297 q68 q298 (by decide +kernel) ⟨rfl, rfl⟩ hR (by decide) ⟨Nat.zero_le _, Nat.zero_le _⟩ rfl hl.1 rfl (Nat.le_of_ble_eq_true rfl) dX0_tried_6) ?_
  refine r_ifeqB (tgt := 24) hx hb dX0_tried_9 (by decide) (fun c1 => ?_) (fun c1 => ?_)
  · refine r_iconst hx hb dX0_tried_24 ?_
    exact c_iret hCK hQ hr hlk hG hS dX0_tried_25 (⟨if_neg (by omega), rfl, rfl, ⟨shJ S 20, S 20 7, S 20 10, shpS_self _ _⟩, ⟨shG Y 25 26 27 28, Y 3, Y 2, shpY_self _ _ _ _ _⟩⟩)
  · refine lv_iload_n hx hb dX0_tried_12 rfl (lv_at hl 2 rfl) ?_
    refine r_i2l hx hb dX0_tried_13 r_w ?_
    refine r_lconst hx hb 0 dX0_tried_14 (by decide) ?_
    refine r_ldc2 hx hb 2 hown (hts _ q745) (by decide) dX0_tried_15 ?_
    refine s_calli (j_runS (n := 3) (rest := []) (as := [.long (iL wh), .long (iL 0), .long (iL 2)]) hx hb hml hown hts ((cin l wh 0 2 (by omega) (by decide) (by decide)).jm) (fun _ _ _ _ _ => trivial) (fun _ _ _ => trivial) q296 q297 q68 q298 (by decide +kernel) ⟨rfl, rfl⟩ hR (by decide) ⟨Nat.zero_le _, Nat.zero_le _⟩ rfl hl.1 rfl (Nat.le_of_ble_eq_true rfl) dX0_tried_18) ?_
    refine r_ifneB (tgt := 26) hx hb dX0_tried_21 (by decide) (fun c2 => ?_) (fun c2 => ?_)
    · refine lv_aload_n hx hb dX0_tried_26 rfl (lv_at hl 0 rfl) ?_
      refine lv_iload_n hx hb dX0_tried_27 rfl (lv_at hl 1 rfl) ?_
      refine c_callv (c_run (n := 1) (C0 := RX0) (b := ad 0) (rest := []) (as := [.int (iI nn)]) hCK hE hml (ctries l adK adV st D E A ad nv I F S Y L nn (by omega) hn gh0 gl0 gm0 gs0 gt0 gr0 hru gsh ht) (g_rec (r := 0) (ci := 0) hK hG (Or.inl (by decide)) rfl cC_0) q935 q937 qs29 q68 q938 (by decide +kernel) ⟨rfl, rfl⟩ hR (by decide) ⟨Nat.zero_le _, Nat.zero_le _⟩ hG hS rfl hl.1 rfl (Nat.le_of_ble_eq_true rfl) dX0_tried_28) hS (fun I4 F5 S6 Y7 H locs hp8 hG hS => ?_)
      obtain ⟨rfl, rfl, ⟨J9, t9, rfl, hJ9⟩, ⟨G9, g9, g8, rfl⟩⟩ := hp8
      have hG : CW D E A ad nv I F (shpS S 20 J9 t9 (trN I F (I 25) nn.toNat (S 19 7) (shJ S 19) (shG Y 21 22 23 24) (absI (S 19 4))).2) (shpY Y 25 26 27 28 G9 g9 g8) L H := hG
      refine lv_iload_n hx hb dX0_tried_31 rfl (lv_at hl 2 rfl) ?_
      refine r_if_ne (tgt := 45) hx hb dX0_tried_32 (by decide) r_w (fun c9 => ?_) (fun c9 => ?_)
      · refine lv_iload_n hx hb dX0_tried_45 rfl (lv_at hl 2 rfl) ?_
        refine r_iconst hx hb dX0_tried_46 ?_
        refine r_icmp_ne (tgt := 60) hx hb dX0_tried_47 (by decide) r_w (by decide) (fun c10 => ?_) (fun c10 => ?_)
        · refine lv_aload_n hx hb dX0_tried_60 rfl (lv_at hl 0 rfl) ?_
          refine cg_X0_72 hCK hG dX0_tried_61 ?_
          refine cg_X0_318 (v := J9 3) hCK hE hG (r := 20) (Or.inr rfl) rfl dX0_tried_64 ?_
          exact c_iret hCK hQ hr hlk hG hS dX0_tried_67 (⟨by rw [if_pos (by omega), if_neg (by omega), if_neg (by omega)]; exact (hJ9 3 (by decide)).symm, rfl, rfl, ⟨_, _, _, rfl⟩, ⟨_, _, _, rfl⟩⟩)
        · refine lv_aload_n hx hb dX0_tried_50 rfl (lv_at hl 0 rfl) ?_
          refine cg_X0_72 hCK hG dX0_tried_51 ?_
          refine cg_X0_315 (v := J9 2) hCK hE hG (r := 20) (Or.inr rfl) rfl dX0_tried_54 ?_
          refine lv_goto (tgt := 67) hx hb dX0_tried_57 (by decide) ?_
          exact c_iret hCK hQ hr hlk hG hS dX0_tried_67 (⟨by rw [if_pos (by omega), if_neg (by omega), if_pos (by omega)]; exact (hJ9 2 (by decide)).symm, rfl, rfl, ⟨_, _, _, rfl⟩, ⟨_, _, _, rfl⟩⟩)
      · refine lv_aload_n hx hb dX0_tried_35 rfl (lv_at hl 0 rfl) ?_
        refine cg_X0_72 hCK hG dX0_tried_36 ?_
        refine cg_X0_312 (v := (trN I F (I 25) nn.toNat (S 19 7) (shJ S 19) (shG Y 21 22 23 24) (absI (S 19 4))).2) hCK hE hG (r := 20) (Or.inr rfl) rfl dX0_tried_39 ?_
        refine lv_goto (tgt := 67) hx hb dX0_tried_42 (by decide) ?_
        exact c_iret hCK hQ hr hlk hG hS dX0_tried_67 (⟨by rw [if_pos (by omega), if_pos (by omega)], rfl, rfl, ⟨_, _, _, rfl⟩, ⟨_, _, _, rfl⟩⟩)
    · refine r_iconst hx hb dX0_tried_24 ?_
      exact c_iret hCK hQ hr hlk hG hS dX0_tried_25 (⟨if_neg (by omega), rfl, rfl, ⟨shJ S 20, S 20 7, S 20 10, shpS_self _ _⟩, ⟨shG Y 25 26 27 28, Y 3, Y 2, shpY_self _ _ _ _ _⟩⟩)
theorem dX0_still_0 : decode cX0_still 0 = .ok (.iload_n 1, 1) := by decide +kernel
theorem dX0_still_1 : decode cX0_still 1 = .ok (.i2l, 1) := by decide +kernel
theorem dX0_still_2 : decode cX0_still 2 = .ok (.lconst 0, 1) := by decide +kernel
theorem dX0_still_3 : decode cX0_still 3 = .ok (.ldc2_w 307, 3) := by decide +kernel
theorem dX0_still_6 : decode cX0_still 6 = .ok (.invokestatic 101, 3) := by decide +kernel
theorem dX0_still_9 : decode cX0_still 9 = .ok (.ifCond .ne 5, 3) := by decide +kernel
theorem dX0_still_12 : decode cX0_still 12 = .ok (.iconst (-1), 1) := by decide +kernel
theorem dX0_still_13 : decode cX0_still 13 = .ok (.ireturn, 1) := by decide +kernel
theorem dX0_still_14 : decode cX0_still 14 = .ok (.aload_n 0, 1) := by decide +kernel
theorem dX0_still_15 : decode cX0_still 15 = .ok (.getfield 262, 3) := by decide +kernel
theorem dX0_still_18 : decode cX0_still 18 = .ok (.istore_n 2, 1) := by decide +kernel
theorem dX0_still_19 : decode cX0_still 19 = .ok (.iconst (-1), 1) := by decide +kernel
theorem dX0_still_20 : decode cX0_still 20 = .ok (.istore_n 3, 1) := by decide +kernel
theorem dX0_still_21 : decode cX0_still 21 = .ok (.iconst 0, 1) := by decide +kernel
theorem dX0_still_22 : decode cX0_still 22 = .ok (.istore 4, 2) := by decide +kernel
theorem dX0_still_24 : decode cX0_still 24 = .ok (.iconst 0, 1) := by decide +kernel
theorem dX0_still_25 : decode cX0_still 25 = .ok (.istore 5, 2) := by decide +kernel
theorem dX0_still_27 : decode cX0_still 27 = .ok (.iload 5, 2) := by decide +kernel
theorem dX0_still_29 : decode cX0_still 29 = .ok (.bipush 9, 2) := by decide +kernel
theorem dX0_still_31 : decode cX0_still 31 = .ok (.if_icmp .gt 52, 3) := by decide +kernel
theorem dX0_still_34 : decode cX0_still 34 = .ok (.aload_n 0, 1) := by decide +kernel
theorem dX0_still_35 : decode cX0_still 35 = .ok (.iload 5, 2) := by decide +kernel
theorem dX0_still_37 : decode cX0_still 37 = .ok (.putfield 262, 3) := by decide +kernel
theorem dX0_still_40 : decode cX0_still 40 = .ok (.aload_n 0, 1) := by decide +kernel
theorem dX0_still_41 : decode cX0_still 41 = .ok (.iload_n 1, 1) := by decide +kernel
theorem dX0_still_42 : decode cX0_still 42 = .ok (.invokevirtual 309, 3) := by decide +kernel
theorem dX0_still_45 : decode cX0_still 45 = .ok (.iload_n 3, 1) := by decide +kernel
theorem dX0_still_46 : decode cX0_still 46 = .ok (.iconst (-1), 1) := by decide +kernel
theorem dX0_still_47 : decode cX0_still 47 = .ok (.if_icmp .eq 18, 3) := by decide +kernel
theorem dX0_still_50 : decode cX0_still 50 = .ok (.aload_n 0, 1) := by decide +kernel
theorem dX0_still_51 : decode cX0_still 51 = .ok (.getfield 72, 3) := by decide +kernel
theorem dX0_still_54 : decode cX0_still 54 = .ok (.getfield 312, 3) := by decide +kernel
theorem dX0_still_57 : decode cX0_still 57 = .ok (.iload 4, 2) := by decide +kernel
theorem dX0_still_59 : decode cX0_still 59 = .ok (.if_icmp .lt 6, 3) := by decide +kernel
theorem dX0_still_62 : decode cX0_still 62 = .ok (.goto 15, 3) := by decide +kernel
theorem dX0_still_65 : decode cX0_still 65 = .ok (.iload 5, 2) := by decide +kernel
theorem dX0_still_67 : decode cX0_still 67 = .ok (.istore_n 3, 1) := by decide +kernel
theorem dX0_still_68 : decode cX0_still 68 = .ok (.aload_n 0, 1) := by decide +kernel
theorem dX0_still_69 : decode cX0_still 69 = .ok (.getfield 72, 3) := by decide +kernel
theorem dX0_still_72 : decode cX0_still 72 = .ok (.getfield 312, 3) := by decide +kernel
theorem dX0_still_75 : decode cX0_still 75 = .ok (.istore 4, 2) := by decide +kernel
theorem dX0_still_77 : decode cX0_still 77 = .ok (.iinc 5 1, 3) := by decide +kernel
theorem dX0_still_80 : decode cX0_still 80 = .ok (.goto (-53), 3) := by decide +kernel
theorem dX0_still_83 : decode cX0_still 83 = .ok (.aload_n 0, 1) := by decide +kernel
theorem dX0_still_84 : decode cX0_still 84 = .ok (.iload_n 2, 1) := by decide +kernel
theorem dX0_still_85 : decode cX0_still 85 = .ok (.putfield 262, 3) := by decide +kernel
theorem dX0_still_88 : decode cX0_still 88 = .ok (.iload_n 3, 1) := by decide +kernel
theorem dX0_still_89 : decode cX0_still 89 = .ok (.ireturn, 1) := by decide +kernel
set_option maxHeartbeats 4000000 in
theorem cstill (l : Launch) (adK adV st : Nat → Nat) (D : va_G) (E : Nat → ClassId) (A : Nat → Prop) (ad nv : Nat → Nat) (I : Nat → Int) (F : Nat → Int → Int) (S : Nat → Nat → Int) (Y : Nat → Int → Int) (L : Nat → Nat) (nn : Int) (r_n : R32 nn) (hn : cOK nv I L) (gh0 : gHull I F) (gl0 : gLoad I F) (gm0 : gMark I F) (gs0 : gSea I F) (gt0 : gSet I) (gr0 : gRule F) (hru : S 0 2 = 0 → F 64 0 = -1 ∧ F 64 1 = -1) (gsh : gShip (S 19 7) (shJ S 19) (shG Y 21 22 23 24)) (ht : 0 ≤ S 19 7 ∧ S 19 7 ≤ 600) : CM l yX0_still cX0_still 6 (some .int) (mrm 11) adK adV st D E A ad nv [.ref (ad 0), .int (iI nn)] I F S Y L (CQi D E A ad nv L (fun z I1 F1 S1 Y1 => (if 0 ≤ nn ∧ nn ≤ 120 then (stN (fun f => (trN I F f nn.toNat (S 19 7) (shJ S 19) (shG Y 21 22 23 24) (absI (S 19 4))).2) 10).1 else -1) = z ∧ I = I1 ∧ F = F1 ∧ (∃ J t gr, shpS S 20 J t gr = S1) ∧ ∃ G g g1, shpY Y 25 26 27 28 G g g1 = Y1)) := by
  refine c_start (by decide) rfl (Nat.le_of_ble_eq_true rfl) ?_
  intro p e R s m args below meth c ls Q hR hQ hCK hml hr hlk hG hS hE hl
  have hx := hCK.1
  have hb := hCK.2.1
  have hown := hCK.2.2.1
  have hts := hCK.2.2.2.1
  have hK := hCK.2.2.2.2
  have hl : lv_has ls 6 [(0, .ref (ad 0)), (1, .int (iI nn))] := hl
  have i4 := gl0.1
  have i15 := gm0.1
  obtain ⟨t22, t23, t24, t25⟩ := id gt0
  refine lv_iload_n hx hb dX0_still_0 rfl (lv_at hl 1 rfl) ?_
  refine r_i2l hx hb dX0_still_1 r_n ?_
  refine r_lconst hx hb 0 dX0_still_2 (by decide) ?_
  refine r_ldc2 hx hb 120 hown (hts _ q934) (by decide) dX0_still_3 ?_
  refine s_calli (j_runS (n := 3) (rest := []) (as := [.long (iL nn), .long (iL 0), .long (iL 120)]) hx hb hml hown hts ((cin l nn 0 120 (by omega) (by decide) (by decide)).jm) (fun _ _ _ _ _ => trivial) (fun _ _ _ => trivial) q296 q297 q68 q298 (by decide +kernel) ⟨rfl, rfl⟩ hR (by decide) ⟨Nat.zero_le _, Nat.zero_le _⟩ rfl hl.1 rfl (Nat.le_of_ble_eq_true rfl) dX0_still_6) ?_
  refine r_ifneB (tgt := 14) hx hb dX0_still_9 (by decide) (fun c1 => ?_) (fun c1 => ?_)
  · have hgb : ∀ fi, 0 ≤ (trN I F fi nn.toNat (S 19 7) (shJ S 19) (shG Y 21 22 23 24) (absI (S 19 4))).2 ∧ (trN I F fi nn.toNat (S 19 7) (shJ S 19) (shG Y 21 22 23 24) (absI (S 19 4))).2 ≤ 80 := fun fi => trN_bd i4 i15 _ _ (S 19 7) _ _ _ ht.1 gsh (absI_bd gsh.1)
    refine lv_aload_n hx hb dX0_still_14 rfl (lv_at hl 0 rfl) ?_
    refine cg_X0_262 (v := I 25) hCK hG rfl dX0_still_15 ?_
    refine lv_istore_n (lv' := [(2, .int (iI (I 25))), (0, .ref (ad 0)), (1, .int (iI nn))]) hx hb dX0_still_18 rfl hl (by decide) rfl (fun ls hl => ?_)
    refine r_iconst hx hb dX0_still_19 ?_
    refine lv_istore_n (lv' := [(3, .int (iI (-1))), (2, .int (iI (I 25))), (0, .ref (ad 0)), (1, .int (iI nn))]) hx hb dX0_still_20 rfl hl (by decide) rfl (fun ls hl => ?_)
    refine r_iconst hx hb dX0_still_21 ?_
    refine lv_istore (lv' := [(4, .int (iI 0)), (3, .int (iI (-1))), (2, .int (iI (I 25))), (0, .ref (ad 0)), (1, .int (iI nn))]) hx hb dX0_still_22 hl (by decide) rfl (fun ls hl => ?_)
    refine r_iconst hx hb dX0_still_24 ?_
    refine lv_istore (lv' := [(5, .int (iI 0)), (4, .int (iI 0)), (3, .int (iI (-1))), (2, .int (iI (I 25))), (0, .ref (ad 0)), (1, .int (iI nn))]) hx hb dX0_still_25 hl (by decide) rfl (fun ls hl => ?_)
    have loop27_2 : ∀ (n : Nat) (best least f : Int) (I1 : Nat → Int) (S1 : Nat → Nat → Int) (Y1 : Nat → Int → Int), 10 - f < (n : Int) → 0 ≤ f → f ≤ 10 → 0 ≤ least ∧ least ≤ 81 → -1 ≤ best ∧ best ≤ 9 → f = 0 ∧ best = -1 ∨ (0 < f ∧ 0 ≤ best ∧ best ≤ 9 ∧ (0 ≤ least ∧ least ≤ 80) ∧ (best, least) = stN (fun f => (trN I F f nn.toNat (S 19 7) (shJ S 19) (shG Y 21 22 23 24) (absI (S 19 4))).2) f.toNat) → (∃ (x : Int) (J : Nat → Int) (t gr : Int) (G : Nat → Int → Int) (g g1 : Int → Int), I1 = va_up I 25 x ∧ S1 = shpS S 20 J t gr ∧ Y1 = shpY Y 25 26 27 28 G g g1) → ∀ (H : Heap) (locs : List Loc) (ls : Array Slot), CW D E A ad nv I1 F S1 Y1 L H → va_S A s.heap H locs → lv_has ls 6 [(5, .int (iI f)), (4, .int (iI least)), (3, .int (iI best)), (2, .int (iI (I 25))), (0, .ref (ad 0)), (1, .int (iI nn))] → W p l e R s m args below meth c H locs 0 0 Q (F0 m 27 ls []) := by
      intro n
      induction n with
      | zero => intro best least f I1 S1 Y1 hn4 hf0 hf1 hle hbb hbs eS; exfalso; omega
      | succ n ih3 =>
        intro best least f I1 S1 Y1 hn4 hf0 hf1 hle hbb hbs eS H locs ls hG hS hl
        obtain ⟨x, J, t, gr, G, g, g1, rfl, rfl, rfl⟩ := eS
        refine lv_iload hx hb dX0_still_27 (lv_at hl 0 rfl) ?_
        refine r_bipush hx hb dX0_still_29 (by decide) ?_
        refine r_icmp_gt (tgt := 83) hx hb dX0_still_31 (by decide) (by omega) (by decide) (fun c5 => ?_) (fun c5 => ?_)
        · have ef : f = 10 := by omega
          subst ef
          refine lv_aload_n hx hb dX0_still_83 rfl (lv_at hl 4 rfl) ?_
          refine lv_iload_n hx hb dX0_still_84 rfl (lv_at hl 3 rfl) ?_
          refine cp_X0_262 hCK hG hS dX0_still_85 (fun H locs hG hS => ?_)
          refine lv_iload_n hx hb dX0_still_88 rfl (lv_at hl 2 rfl) ?_
          exact c_iret hCK hQ hr hlk hG hS dX0_still_89 (⟨by rw [if_pos (by omega)]; rcases hbs with hbs | hbs; exact absurd hbs.1 (by decide); rw [show stN _ 10 = (best, least) from hbs.2.2.2.2.symm], by rw [up_up, up_self], rfl, ⟨_, _, _, rfl⟩, ⟨_, _, _, rfl⟩⟩)
        · have hgf := hgb f
          refine lv_aload_n hx hb dX0_still_34 rfl (lv_at hl 4 rfl) ?_
          refine lv_iload hx hb dX0_still_35 (lv_at hl 0 rfl) ?_
          refine cp_X0_262 hCK hG hS dX0_still_37 (fun H locs hG hS => ?_)
          have hG : CW D E A ad nv (va_up I 25 f) F (shpS S 20 J t gr) (shpY Y 25 26 27 28 G g g1) L H := by
            rw [show va_up I 25 f = va_up (va_up I 25 x) 25 f by rw [up_up]]; exact hG
          have gt0 : gSet (va_up I 25 f) := ⟨t22, t23, t24, show 0 ≤ f ∧ f ≤ 9 by omega⟩
          refine lv_aload_n hx hb dX0_still_40 rfl (lv_at hl 4 rfl) ?_
          refine lv_iload_n hx hb dX0_still_41 rfl (lv_at hl 5 rfl) ?_
          refine c_callv (c_run (n := 1) (C0 := RX0) (b := ad 0) (rest := []) (as := [.int (iI nn)]) hCK hE hml (ctries l adK adV st D E A ad nv (va_up I 25 f) F (shpS S 20 J t gr) (shpY Y 25 26 27 28 G g g1) L nn (by omega) hn gh0 gl0 gm0 gs0 gt0 gr0 hru gsh ht) (g_rec (r := 0) (ci := 0) hK hG (Or.inl (by decide)) rfl cC_0) q935 q937 qs29 q68 q938 (by decide +kernel) ⟨rfl, rfl⟩ hR (by decide) ⟨Nat.zero_le _, Nat.zero_le _⟩ hG hS rfl hl.1 rfl (Nat.le_of_ble_eq_true rfl) dX0_still_42) hS (fun I7 F8 S9 Y10 H locs hp11 hG hS => ?_)
          obtain ⟨rfl, rfl, ⟨J9, t9, hS9, hJ9⟩, ⟨G9, g9, g8, hY9⟩⟩ := hp11
          have hS9 : shpS (shpS S 20 J t gr) 20 J9 t9 (trN (va_up I 25 f) F f nn.toNat (S 19 7) (shJ S 19) (shG Y 21 22 23 24) (absI (S 19 4))).2 = _ := hS9
          have hY9 : shpY (shpY Y 25 26 27 28 G g g1) 25 26 27 28 G9 g9 g8 = _ := hY9
          have ecT : trN (va_up I 25 f) F f nn.toNat (S 19 7) (shJ S 19) (shG Y 21 22 23 24) (absI (S 19 4)) = trN I F f nn.toNat (S 19 7) (shJ S 19) (shG Y 21 22 23 24) (absI (S 19 4)) := trN_cg (I := va_up I 25 f) (F := F) (I1 := I) (F1 := F) ⟨⟨rfl, rfl, rfl, rfl, rfl, rfl, rfl, rfl⟩, rfl, rfl, rfl, rfl, rfl, rfl, rfl, rfl, rfl, rfl, rfl, rfl, rfl, rfl, rfl, rfl, rfl, rfl, rfl, rfl⟩ f _ _ _ _ _
          rw [shpS_shpS, ecT] at hS9
          rw [shpY_shpY] at hY9
          subst hS9
          subst hY9
          have hG : CW D E A ad nv (va_up I 25 f) F (shpS S 20 J9 t9 (trN I F f nn.toNat (S 19 7) (shJ S 19) (shG Y 21 22 23 24) (absI (S 19 4))).2) (shpY Y 25 26 27 28 G9 g9 g8) L H := hG
          refine lv_iload_n hx hb dX0_still_45 rfl (lv_at hl 2 rfl) ?_
          refine r_iconst hx hb dX0_still_46 ?_
          refine r_icmp_eq (tgt := 65) hx hb dX0_still_47 (by decide) (by omega) (by decide) (fun c9 => ?_) (fun c9 => ?_)
          · refine lv_iload hx hb dX0_still_65 (lv_at hl 0 rfl) ?_
            refine lv_istore_n (lv' := [(3, .int (iI f)), (5, .int (iI f)), (4, .int (iI least)), (2, .int (iI (I 25))), (0, .ref (ad 0)), (1, .int (iI nn))]) hx hb dX0_still_67 rfl hl (by decide) rfl (fun ls hl => ?_)
            refine lv_aload_n hx hb dX0_still_68 rfl (lv_at hl 4 rfl) ?_
            refine cg_X0_72 hCK hG dX0_still_69 ?_
            refine cg_X0_312 (v := (trN I F f nn.toNat (S 19 7) (shJ S 19) (shG Y 21 22 23 24) (absI (S 19 4))).2) hCK hE hG (r := 20) (Or.inr rfl) rfl dX0_still_72 ?_
            refine lv_istore (lv' := [(4, .int (iI ((trN I F f nn.toNat (S 19 7) (shJ S 19) (shG Y 21 22 23 24) (absI (S 19 4))).2))), (3, .int (iI f)), (5, .int (iI f)), (2, .int (iI (I 25))), (0, .ref (ad 0)), (1, .int (iI nn))]) hx hb dX0_still_75 hl (by decide) rfl (fun ls hl => ?_)
            refine lv_iinc (v := iI (f + 1)) (lv' := [(5, .int (iI (f + 1))), (4, .int (iI ((trN I F f nn.toNat (S 19 7) (shJ S 19) (shG Y 21 22 23 24) (absI (S 19 4))).2))), (3, .int (iI f)), (2, .int (iI (I 25))), (0, .ref (ad 0)), (1, .int (iI nn))]) hx hb dX0_still_77 hl (k := 2) rfl (iI_add _ _) (by decide) rfl (fun ls hl => ?_)
            refine lv_goto (tgt := 27) hx hb dX0_still_80 (by decide) ?_
            exact ih3 f ((trN I F f nn.toNat (S 19 7) (shJ S 19) (shG Y 21 22 23 24) (absI (S 19 4))).2) (f + 1) (va_up I 25 f) (shpS S 20 J9 t9 (trN I F f nn.toNat (S 19 7) (shJ S 19) (shG Y 21 22 23 24) (absI (S 19 4))).2) (shpY Y 25 26 27 28 G9 g9 g8) (by omega) (by omega) (by omega) (by omega) (by omega) (Or.inr ⟨by omega, by omega, by omega, hgf, by rw [stN_s (fun f => (trN I F f nn.toNat (S 19 7) (shJ S 19) (shG Y 21 22 23 24) (absI (S 19 4))).2) hf0, if_neg (by rcases hbs with hbs | hbs; rw [hbs.1]; show ¬ (81 : Int) ≤ (trN I F 0 nn.toNat (S 19 7) (shJ S 19) (shG Y 21 22 23 24) (absI (S 19 4))).2; have := hgb 0; omega; exact absurd c9 (by omega))]⟩) (⟨f, J9, t9, _, G9, g9, g8, rfl, rfl, rfl⟩) _ _ _ hG hS (lv_sub hl [0, 1, 2, 3, 4, 5] rfl)
          · refine lv_aload_n hx hb dX0_still_50 rfl (lv_at hl 4 rfl) ?_
            refine cg_X0_72 hCK hG dX0_still_51 ?_
            refine cg_X0_312 (v := (trN I F f nn.toNat (S 19 7) (shJ S 19) (shG Y 21 22 23 24) (absI (S 19 4))).2) hCK hE hG (r := 20) (Or.inr rfl) rfl dX0_still_54 ?_
            refine lv_iload hx hb dX0_still_57 (lv_at hl 1 rfl) ?_
            refine r_icmp_lt (tgt := 65) hx hb dX0_still_59 (by decide) (by omega) (by omega) (fun c12 => ?_) (fun c12 => ?_)
            · refine lv_iload hx hb dX0_still_65 (lv_at hl 0 rfl) ?_
              refine lv_istore_n (lv' := [(3, .int (iI f)), (5, .int (iI f)), (4, .int (iI least)), (2, .int (iI (I 25))), (0, .ref (ad 0)), (1, .int (iI nn))]) hx hb dX0_still_67 rfl hl (by decide) rfl (fun ls hl => ?_)
              refine lv_aload_n hx hb dX0_still_68 rfl (lv_at hl 4 rfl) ?_
              refine cg_X0_72 hCK hG dX0_still_69 ?_
              refine cg_X0_312 (v := (trN I F f nn.toNat (S 19 7) (shJ S 19) (shG Y 21 22 23 24) (absI (S 19 4))).2) hCK hE hG (r := 20) (Or.inr rfl) rfl dX0_still_72 ?_
              refine lv_istore (lv' := [(4, .int (iI ((trN I F f nn.toNat (S 19 7) (shJ S 19) (shG Y 21 22 23 24) (absI (S 19 4))).2))), (3, .int (iI f)), (5, .int (iI f)), (2, .int (iI (I 25))), (0, .ref (ad 0)), (1, .int (iI nn))]) hx hb dX0_still_75 hl (by decide) rfl (fun ls hl => ?_)
              refine lv_iinc (v := iI (f + 1)) (lv' := [(5, .int (iI (f + 1))), (4, .int (iI ((trN I F f nn.toNat (S 19 7) (shJ S 19) (shG Y 21 22 23 24) (absI (S 19 4))).2))), (3, .int (iI f)), (2, .int (iI (I 25))), (0, .ref (ad 0)), (1, .int (iI nn))]) hx hb dX0_still_77 hl (k := 2) rfl (iI_add _ _) (by decide) rfl (fun ls hl => ?_)
              refine lv_goto (tgt := 27) hx hb dX0_still_80 (by decide) ?_
              exact ih3 f ((trN I F f nn.toNat (S 19 7) (shJ S 19) (shG Y 21 22 23 24) (absI (S 19 4))).2) (f + 1) (va_up I 25 f) (shpS S 20 J9 t9 (trN I F f nn.toNat (S 19 7) (shJ S 19) (shG Y 21 22 23 24) (absI (S 19 4))).2) (shpY Y 25 26 27 28 G9 g9 g8) (by omega) (by omega) (by omega) (by omega) (by omega) (Or.inr ⟨by omega, by omega, by omega, hgf, by rw [stN_s (fun f => (trN I F f nn.toNat (S 19 7) (shJ S 19) (shG Y 21 22 23 24) (absI (S 19 4))).2) hf0]; rcases hbs with hbs | hbs; exact absurd hbs.2 c9; rw [← hbs.2.2.2.2, if_neg (show ¬ least ≤ (trN I F f nn.toNat (S 19 7) (shJ S 19) (shG Y 21 22 23 24) (absI (S 19 4))).2 by omega)]⟩) (⟨f, J9, t9, _, G9, g9, g8, rfl, rfl, rfl⟩) _ _ _ hG hS (lv_sub hl [0, 1, 2, 3, 4, 5] rfl)
            · refine lv_goto (tgt := 77) hx hb dX0_still_62 (by decide) ?_
              refine lv_iinc (v := iI (f + 1)) (lv' := [(5, .int (iI (f + 1))), (4, .int (iI least)), (3, .int (iI best)), (2, .int (iI (I 25))), (0, .ref (ad 0)), (1, .int (iI nn))]) hx hb dX0_still_77 hl (k := 0) rfl (iI_add _ _) (by decide) rfl (fun ls hl => ?_)
              refine lv_goto (tgt := 27) hx hb dX0_still_80 (by decide) ?_
              exact ih3 best least (f + 1) (va_up I 25 f) (shpS S 20 J9 t9 (trN I F f nn.toNat (S 19 7) (shJ S 19) (shG Y 21 22 23 24) (absI (S 19 4))).2) (shpY Y 25 26 27 28 G9 g9 g8) (by omega) (by omega) (by omega) (by omega) (by omega) (Or.inr ⟨by omega, by omega, by omega, by omega, by rw [stN_s (fun f => (trN I F f nn.toNat (S 19 7) (shJ S 19) (shG Y 21 22 23 24) (absI (S 19 4))).2) hf0]; rcases hbs with hbs | hbs; exact absurd hbs.2 c9; rw [← hbs.2.2.2.2, if_pos (show least ≤ (trN I F f nn.toNat (S 19 7) (shJ S 19) (shG Y 21 22 23 24) (absI (S 19 4))).2 by omega)]⟩) (⟨f, J9, t9, _, G9, g9, g8, rfl, rfl, rfl⟩) _ _ _ hG hS (lv_sub hl [0, 1, 2, 3, 4, 5] rfl)
    exact loop27_2 ((10 - 0 : Int).toNat + 1) (-1) 0 0 I S Y (by omega) (by omega) (by omega) (by omega) (by omega) (Or.inl ⟨rfl, rfl⟩) (⟨I 25, shJ S 20, S 20 7, S 20 10, shG Y 25 26 27 28, Y 3, Y 2, by rw [up_self], (shpS_self _ _).symm, (shpY_self _ _ _ _ _).symm⟩) _ _ _ hG hS (lv_sub hl [0, 1, 2, 3, 4, 5] rfl)
  · refine r_iconst hx hb dX0_still_12 ?_
    exact c_iret hCK hQ hr hlk hG hS dX0_still_13 (⟨if_neg (by omega), rfl, rfl, ⟨shJ S 20, S 20 7, S 20 10, shpS_self _ _⟩, ⟨shG Y 25 26 27 28, Y 3, Y 2, shpY_self _ _ _ _ _⟩⟩)
theorem dX0_holds_0 : decode cX0_holds 0 = .ok (.iload_n 1, 1) := by decide +kernel
theorem dX0_holds_1 : decode cX0_holds 1 = .ok (.i2l, 1) := by decide +kernel
theorem dX0_holds_2 : decode cX0_holds 2 = .ok (.lconst 0, 1) := by decide +kernel
theorem dX0_holds_3 : decode cX0_holds 3 = .ok (.lconst 1, 1) := by decide +kernel
theorem dX0_holds_4 : decode cX0_holds 4 = .ok (.invokestatic 101, 3) := by decide +kernel
theorem dX0_holds_7 : decode cX0_holds 7 = .ok (.ifCond .eq 16, 3) := by decide +kernel
theorem dX0_holds_10 : decode cX0_holds 10 = .ok (.aload_n 0, 1) := by decide +kernel
theorem dX0_holds_11 : decode cX0_holds 11 = .ok (.getfield 68, 3) := by decide +kernel
theorem dX0_holds_14 : decode cX0_holds 14 = .ok (.getfield 271, 3) := by decide +kernel
theorem dX0_holds_17 : decode cX0_holds 17 = .ok (.sipush 600, 3) := by decide +kernel
theorem dX0_holds_20 : decode cX0_holds 20 = .ok (.if_icmp .ne 7, 3) := by decide +kernel
theorem dX0_holds_23 : decode cX0_holds 23 = .ok (.iconst (-1), 1) := by decide +kernel
theorem dX0_holds_24 : decode cX0_holds 24 = .ok (.goto 19, 3) := by decide +kernel
theorem dX0_holds_27 : decode cX0_holds 27 = .ok (.aload_n 0, 1) := by decide +kernel
theorem dX0_holds_28 : decode cX0_holds 28 = .ok (.getfield 68, 3) := by decide +kernel
theorem dX0_holds_31 : decode cX0_holds 31 = .ok (.iload_n 1, 1) := by decide +kernel
theorem dX0_holds_32 : decode cX0_holds 32 = .ok (.invokevirtual 297, 3) := by decide +kernel
theorem dX0_holds_35 : decode cX0_holds 35 = .ok (.ifCond .eq 7, 3) := by decide +kernel
theorem dX0_holds_38 : decode cX0_holds 38 = .ok (.iconst 1, 1) := by decide +kernel
theorem dX0_holds_39 : decode cX0_holds 39 = .ok (.goto 4, 3) := by decide +kernel
theorem dX0_holds_42 : decode cX0_holds 42 = .ok (.iconst 0, 1) := by decide +kernel
theorem dX0_holds_43 : decode cX0_holds 43 = .ok (.ireturn, 1) := by decide +kernel
set_option maxHeartbeats 4000000 in
theorem cholds0 (l : Launch) (adK adV st : Nat → Nat) (D : va_G) (E : Nat → ClassId) (A : Nat → Prop) (ad nv : Nat → Nat) (I : Nat → Int) (F : Nat → Int → Int) (S : Nat → Nat → Int) (Y : Nat → Int → Int) (L : Nat → Nat) (cz : Int) (r_c : R32 cz) (hn : cOK nv I L) (gh0 : gHull I F) (gl0 : gLoad I F) (gm0 : gMark I F) (gs0 : gSea I F) (gt0 : gSet I) (gr0 : gRule F) (hru : S 0 2 = 0 → F 64 0 = -1 ∧ F 64 1 = -1) (gsh : gShip 3000 (shJ S 19) (shG Y 21 22 23 24)) (ht : 0 ≤ S 19 7 ∧ S 19 7 ≤ 600) : CM l yX0_holds cX0_holds 2 (some .int) (mrm 7) adK adV st D E A ad nv [.ref (ad 0), .int (iI cz)] I F S Y L (CQi D E A ad nv L (fun z I1 F1 S1 Y1 => (if (0 ≤ cz ∧ cz ≤ 1) ∧ S 19 7 < 600 then soZ F cz (nmS I F (S 19 4) (S 19 5) (S 19 7) (S 19 8) (Y 24) (Y 21)) else -1) = z ∧ I = I1 ∧ F = F1 ∧ S = S1 ∧ ∃ g g1, va_up (va_up Y 3 g) 2 g1 = Y1)) := by
  refine c_start (by decide) rfl (Nat.le_of_ble_eq_true rfl) ?_
  intro p e R s m args below meth c ls Q hR hQ hCK hml hr hlk hG hS hE hl
  have hx := hCK.1
  have hb := hCK.2.1
  have hown := hCK.2.2.1
  have hts := hCK.2.2.2.1
  have hK := hCK.2.2.2.2
  have hl : lv_has ls 2 [(0, .ref (ad 0)), (1, .int (iI cz))] := hl
  have b28 : -80 ≤ S 19 4 ∧ S 19 4 ≤ 80 := gsh.1
  have b29 : -30 ≤ S 19 5 ∧ S 19 5 ≤ 30 := gsh.2.1
  have b30 : 0 ≤ S 19 8 ∧ S 19 8 ≤ 100000 := by have b30 : 0 ≤ S 19 8 ∧ S 19 8 ≤ 26 * 3000 := gsh.2.2.1; exact ⟨b30.1, Int.le_trans b30.2 (by decide)⟩
  have gp0 : Bd (Y 21) 12 (-19) 19 := gsh.2.2.2.2.2.1
  have gw0 : Bd (Y 24) 6 0 1 := gsh.2.2.2.2.2.2
  refine lv_iload_n hx hb dX0_holds_0 rfl (lv_at hl 1 rfl) ?_
  refine r_i2l hx hb dX0_holds_1 r_c ?_
  refine r_lconst hx hb 0 dX0_holds_2 (by decide) ?_
  refine r_lconst hx hb 1 dX0_holds_3 (by decide) ?_
  refine s_calli (j_runS (n := 3) (rest := []) (as := [.long (iL cz), .long (iL 0), .long (iL 1)]) hx hb hml hown hts ((cin l cz 0 1 (by omega) (by decide) (by decide)).jm) (fun _ _ _ _ _ => trivial) (fun _ _ _ => trivial) q296 q297 q68 q298 (by decide +kernel) ⟨rfl, rfl⟩ hR (by decide) ⟨Nat.zero_le _, Nat.zero_le _⟩ rfl hl.1 rfl (Nat.le_of_ble_eq_true rfl) dX0_holds_4) ?_
  refine r_ifeqB (tgt := 23) hx hb dX0_holds_7 (by decide) (fun c1 => ?_) (fun c1 => ?_)
  · refine r_iconst hx hb dX0_holds_23 ?_
    refine lv_goto (tgt := 43) hx hb dX0_holds_24 (by decide) ?_
    exact c_iret hCK hQ hr hlk hG hS dX0_holds_43 (⟨if_neg (by omega), rfl, rfl, rfl, ⟨Y 3, Y 2, by rw [up_self]; exact up_self Y 2⟩⟩)
  · refine lv_aload_n hx hb dX0_holds_10 rfl (lv_at hl 0 rfl) ?_
    refine cg_X0_68 hCK hG dX0_holds_11 ?_
    refine cg_X0_271 (v := S 19 7) hCK hE hG (r := 19) (Or.inl rfl) rfl dX0_holds_14 ?_
    refine r_sipush hx hb dX0_holds_17 (by decide) ?_
    refine r_icmp_ne (tgt := 27) hx hb dX0_holds_20 (by decide) (by omega) (by decide) (fun c2 => ?_) (fun c2 => ?_)
    · refine lv_aload_n hx hb dX0_holds_27 rfl (lv_at hl 0 rfl) ?_
      refine cg_X0_68 hCK hG dX0_holds_28 ?_
      refine lv_iload_n hx hb dX0_holds_31 rfl (lv_at hl 1 rfl) ?_
      refine c_calli (c_run (n := 1) (C0 := RX1) (b := ad 19) (rest := []) (as := [.int (iI cz)]) hCK hE hml (cholds_19 l adK adV st D E A ad nv I F S Y L cz (by omega) hn gs0 gl0 gm0 gr0 hru b28 b29 (show 0 ≤ S 19 7 ∧ S 19 7 ≤ 1000 by omega) b30 gp0 gw0) (g_rec (r := 19) (ci := 1) hK hG (Or.inl (by omega)) rfl (cC_s (Or.inl rfl))) q929 q873 q874 q72 q875 (by decide +kernel) ⟨rfl, rfl⟩ hR (by decide) ⟨Nat.zero_le _, Nat.zero_le _⟩ hG hS rfl hl.1 rfl (Nat.le_of_ble_eq_true rfl) dX0_holds_32) hS (fun z3 I4 F5 S6 Y7 H locs hp8 hG hS => ?_)
      obtain ⟨rfl, rfl, rfl, rfl, gh0, gk0, rfl⟩ := hp8
      have hG : CW D E A ad nv I F S (va_up (va_up Y 3 gh0) 2 gk0) L H := hG
      refine W.eq (g2 := F0 m 35 ls [.int (iI (soZ F cz (nmS I F (S 19 4) (S 19 5) (S 19 7) (S 19 8) (Y 24) (Y 21))))]) rfl ?_
      obtain ⟨so0, h_so0⟩ : ∃ x : Int, x = soZ F cz (nmS I F (S 19 4) (S 19 5) (S 19 7) (S 19 8) (Y 24) (Y 21)) := ⟨_, rfl⟩
      refine W.eq (g2 := F0 m 35 ls [.int (iI so0)]) (by subst h_so0; rfl) ?_
      have b_so0 : so0 = 0 ∨ so0 = 1 := by rw [h_so0]; exact soZ_01 _ _ _
      have eh : (if (0 ≤ cz ∧ cz ≤ 1) ∧ S 19 7 < 600 then soZ F cz (nmS I F (S 19 4) (S 19 5) (S 19 7) (S 19 8) (Y 24) (Y 21)) else -1) = so0 := by rw [if_pos (by omega), h_so0]
      refine r_if_eq (tgt := 42) hx hb dX0_holds_35 (by decide) (by omega) (fun c9 => ?_) (fun c9 => ?_)
      · refine r_iconst hx hb dX0_holds_42 ?_
        exact c_iret hCK hQ hr hlk hG hS dX0_holds_43 (⟨by rw [eh]; omega, rfl, rfl, rfl, ⟨_, _, rfl⟩⟩)
      · refine r_iconst hx hb dX0_holds_38 ?_
        refine lv_goto (tgt := 43) hx hb dX0_holds_39 (by decide) ?_
        exact c_iret hCK hQ hr hlk hG hS dX0_holds_43 (⟨by rw [eh]; omega, rfl, rfl, rfl, ⟨_, _, rfl⟩⟩)
    · refine r_iconst hx hb dX0_holds_23 ?_
      refine lv_goto (tgt := 43) hx hb dX0_holds_24 (by decide) ?_
      exact c_iret hCK hQ hr hlk hG hS dX0_holds_43 (⟨if_neg (by omega), rfl, rfl, rfl, ⟨Y 3, Y 2, by rw [up_self]; exact up_self Y 2⟩⟩)
