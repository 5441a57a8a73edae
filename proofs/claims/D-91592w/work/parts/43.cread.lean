/-! THE COMPONENT: what is read of it -/
set_option maxRecDepth 100000
theorem dX0_kept_0 : decode cX0_kept 0 = .ok (.iload_n 1, 1) := by decide +kernel
theorem dX0_kept_1 : decode cX0_kept 1 = .ok (.i2l, 1) := by decide +kernel
theorem dX0_kept_2 : decode cX0_kept 2 = .ok (.lconst 0, 1) := by decide +kernel
theorem dX0_kept_3 : decode cX0_kept 3 = .ok (.aload_n 0, 1) := by decide +kernel
theorem dX0_kept_4 : decode cX0_kept 4 = .ok (.getfield 68, 3) := by decide +kernel
theorem dX0_kept_7 : decode cX0_kept 7 = .ok (.getfield 271, 3) := by decide +kernel
theorem dX0_kept_10 : decode cX0_kept 10 = .ok (.iconst 1, 1) := by decide +kernel
theorem dX0_kept_11 : decode cX0_kept 11 = .ok (.isub, 1) := by decide +kernel
theorem dX0_kept_12 : decode cX0_kept 12 = .ok (.i2l, 1) := by decide +kernel
theorem dX0_kept_13 : decode cX0_kept 13 = .ok (.invokestatic 101, 3) := by decide +kernel
theorem dX0_kept_16 : decode cX0_kept 16 = .ok (.ifCond .eq 26, 3) := by decide +kernel
theorem dX0_kept_19 : decode cX0_kept 19 = .ok (.iload_n 2, 1) := by decide +kernel
theorem dX0_kept_20 : decode cX0_kept 20 = .ok (.i2l, 1) := by decide +kernel
theorem dX0_kept_21 : decode cX0_kept 21 = .ok (.lconst 0, 1) := by decide +kernel
theorem dX0_kept_22 : decode cX0_kept 22 = .ok (.ldc2_w 222, 3) := by decide +kernel
theorem dX0_kept_25 : decode cX0_kept 25 = .ok (.invokestatic 101, 3) := by decide +kernel
theorem dX0_kept_28 : decode cX0_kept 28 = .ok (.ifCond .eq 14, 3) := by decide +kernel
theorem dX0_kept_31 : decode cX0_kept 31 = .ok (.aload_n 0, 1) := by decide +kernel
theorem dX0_kept_32 : decode cX0_kept 32 = .ok (.getfield 77, 3) := by decide +kernel
theorem dX0_kept_35 : decode cX0_kept 35 = .ok (.iload_n 1, 1) := by decide +kernel
theorem dX0_kept_36 : decode cX0_kept 36 = .ok (.aaload, 1) := by decide +kernel
theorem dX0_kept_37 : decode cX0_kept 37 = .ok (.iload_n 2, 1) := by decide +kernel
theorem dX0_kept_38 : decode cX0_kept 38 = .ok (.iaload, 1) := by decide +kernel
theorem dX0_kept_39 : decode cX0_kept 39 = .ok (.goto 5, 3) := by decide +kernel
theorem dX0_kept_42 : decode cX0_kept 42 = .ok (.ldc 206, 2) := by decide +kernel
theorem dX0_kept_44 : decode cX0_kept 44 = .ok (.ireturn, 1) := by decide +kernel
set_option maxHeartbeats 4000000 in
theorem ckept (l : Launch) (adK adV st : Nat → Nat) (D : va_G) (E : Nat → ClassId) (A : Nat → Prop) (ad nv : Nat → Nat) (I : Nat → Int) (F : Nat → Int → Int) (S : Nat → Nat → Int) (Y : Nat → Int → Int) (L : Nat → Nat) (t wh : Int) (r_t : R32 t) (r_w : R32 wh) (ht : 0 ≤ S 19 7 ∧ S 19 7 ≤ 600) : JM l yX0_kept cX0_kept 3 (some .int) (mrm 1) (CX adK adV st D E A ad nv I F S Y L) [.ref (ad 0), .int (iI t), .int (iI wh)] (vp_Si (fun r => r = iI (if (0 ≤ t ∧ t < S 19 7) ∧ (0 ≤ wh ∧ wh ≤ 2) then Y (1000 + t.toNat) wh else -2147483648))) := by
  refine j_start (by decide) rfl (Nat.le_of_ble_eq_true rfl) ?_
  intro p e R s m args below meth c ls Q hR hQ hC hml hr hlk hB hl
  have hx := hC.1
  have hb := hC.2.1
  have hown := hC.2.2.1
  have hts := hC.2.2.2
  have hS : va_S A s.heap s.heap [] := va_S.rf
  have hK := hB.1
  have hG := hB.2.1
  have hE := hB.2.2
  have hCK : CK p m c _ s args _ D E := ⟨hx, hb, hown, hts, hK⟩
  have hl : lv_has ls 3 [(0, .ref (ad 0)), (1, .int (iI t)), (2, .int (iI wh))] := hl
  refine lv_iload_n hx hb dX0_kept_0 rfl (lv_at hl 1 rfl) ?_
  refine r_i2l hx hb dX0_kept_1 (by omega) ?_
  refine r_lconst hx hb 0 dX0_kept_2 (by decide) ?_
  refine lv_aload_n hx hb dX0_kept_3 rfl (lv_at hl 0 rfl) ?_
  refine cg_X0_68 hCK hG dX0_kept_4 ?_
  refine cg_X0_271 (v := S 19 7) hCK hE hG (r := 19) (Or.inl rfl) rfl dX0_kept_7 ?_
  refine r_iconst hx hb dX0_kept_10 ?_
  refine r_isub hx hb dX0_kept_11 ?_
  refine r_i2l hx hb dX0_kept_12 (by omega) ?_
  refine s_calli (j_runS (n := 3) (rest := []) (as := [.long (iL t), .long (iL 0), .long (iL ((S 19 7) - 1))]) hx hb hml hown hts ((cin l t 0 ((S 19 7) - 1) (by omega) (by decide) (by omega)).jm) (fun _ _ _ _ _ => trivial) (fun _ _ _ => trivial) q296 q297 q68 q298 (by decide +kernel) ⟨rfl, rfl⟩ hR (by decide) ⟨Nat.zero_le _, Nat.zero_le _⟩ rfl hl.1 rfl (Nat.le_of_ble_eq_true rfl) dX0_kept_13) ?_
  refine r_ifeqB (tgt := 42) hx hb dX0_kept_16 (by decide) (fun c1 => ?_) (fun c1 => ?_)
  · refine r_ldc hx hb (-2147483648) hown (hts _ q746) (by decide) dX0_kept_42 ?_
    exact j_iret hC hr hlk hQ dX0_kept_44 (by rw [if_neg (by omega)])
  · refine lv_iload_n hx hb dX0_kept_19 rfl (lv_at hl 2 rfl) ?_
    refine r_i2l hx hb dX0_kept_20 (by omega) ?_
    refine r_lconst hx hb 0 dX0_kept_21 (by decide) ?_
    refine r_ldc2 hx hb 2 hown (hts _ q745) (by decide) dX0_kept_22 ?_
    refine s_calli (j_runS (n := 3) (rest := []) (as := [.long (iL wh), .long (iL 0), .long (iL 2)]) hx hb hml hown hts ((cin l wh 0 2 (by omega) (by decide) (by decide)).jm) (fun _ _ _ _ _ => trivial) (fun _ _ _ => trivial) q296 q297 q68 q298 (by decide +kernel) ⟨rfl, rfl⟩ hR (by decide) ⟨Nat.zero_le _, Nat.zero_le _⟩ rfl hl.1 rfl (Nat.le_of_ble_eq_true rfl) dX0_kept_25) ?_
    refine r_ifeqB (tgt := 42) hx hb dX0_kept_28 (by decide) (fun c2 => ?_) (fun c2 => ?_)
    · refine r_ldc hx hb (-2147483648) hown (hts _ q746) (by decide) dX0_kept_42 ?_
      exact j_iret hC hr hlk hQ dX0_kept_44 (by rw [if_neg (by omega)])
    · refine lv_aload_n hx hb dX0_kept_31 rfl (lv_at hl 0 rfl) ?_
      refine cg_X0_77 hCK hG dX0_kept_32 ?_
      refine lv_iload_n hx hb dX0_kept_35 rfl (lv_at hl 1 rfl) ?_
      refine cl_9 (z := t) hCK hG (by omega) dX0_kept_36 ?_
      refine lv_iload_n hx hb dX0_kept_37 rfl (lv_at hl 2 rfl) ?_
      refine cl_kp (v := Y (1000 + t.toNat) wh) (k := t) hCK hG (by omega) (by omega) rfl dX0_kept_38 ?_
      refine lv_goto (tgt := 44) hx hb dX0_kept_39 (by decide) ?_
      exact j_iret hC hr hlk hQ dX0_kept_44 (by rw [if_pos (by omega)])
theorem dX0_lead_0 : decode cX0_lead 0 = .ok (.iload_n 1, 1) := by decide +kernel
theorem dX0_lead_1 : decode cX0_lead 1 = .ok (.i2l, 1) := by decide +kernel
theorem dX0_lead_2 : decode cX0_lead 2 = .ok (.lconst 0, 1) := by decide +kernel
theorem dX0_lead_3 : decode cX0_lead 3 = .ok (.ldc2_w 292, 3) := by decide +kernel
theorem dX0_lead_6 : decode cX0_lead 6 = .ok (.invokestatic 101, 3) := by decide +kernel
theorem dX0_lead_9 : decode cX0_lead 9 = .ok (.ifCond .eq 15, 3) := by decide +kernel
theorem dX0_lead_12 : decode cX0_lead 12 = .ok (.aload_n 0, 1) := by decide +kernel
theorem dX0_lead_13 : decode cX0_lead 13 = .ok (.getfield 68, 3) := by decide +kernel
theorem dX0_lead_16 : decode cX0_lead 16 = .ok (.getfield 294, 3) := by decide +kernel
theorem dX0_lead_19 : decode cX0_lead 19 = .ok (.iload_n 1, 1) := by decide +kernel
theorem dX0_lead_20 : decode cX0_lead 20 = .ok (.iaload, 1) := by decide +kernel
theorem dX0_lead_21 : decode cX0_lead 21 = .ok (.goto 5, 3) := by decide +kernel
theorem dX0_lead_24 : decode cX0_lead 24 = .ok (.ldc 206, 2) := by decide +kernel
theorem dX0_lead_26 : decode cX0_lead 26 = .ok (.ireturn, 1) := by decide +kernel
set_option maxHeartbeats 4000000 in
theorem clead (l : Launch) (adK adV st : Nat → Nat) (D : va_G) (E : Nat → ClassId) (A : Nat → Prop) (ad nv : Nat → Nat) (I : Nat → Int) (F : Nat → Int → Int) (S : Nat → Nat → Int) (Y : Nat → Int → Int) (L : Nat → Nat) (k : Int) (r_k : R32 k) : JM l yX0_lead cX0_lead 2 (some .int) (mrm 1) (CX adK adV st D E A ad nv I F S Y L) [.ref (ad 0), .int (iI k)] (vp_Si (fun r => r = iI (if 0 ≤ k ∧ k ≤ 3 then Y 22 k else -2147483648))) := by
  refine j_start (by decide) rfl (Nat.le_of_ble_eq_true rfl) ?_
  intro p e R s m args below meth c ls Q hR hQ hC hml hr hlk hB hl
  have hx := hC.1
  have hb := hC.2.1
  have hown := hC.2.2.1
  have hts := hC.2.2.2
  have hS : va_S A s.heap s.heap [] := va_S.rf
  have hK := hB.1
  have hG := hB.2.1
  have hE := hB.2.2
  have hCK : CK p m c _ s args _ D E := ⟨hx, hb, hown, hts, hK⟩
  have hl : lv_has ls 2 [(0, .ref (ad 0)), (1, .int (iI k))] := hl
  refine lv_iload_n hx hb dX0_lead_0 rfl (lv_at hl 1 rfl) ?_
  refine r_i2l hx hb dX0_lead_1 (by omega) ?_
  refine r_lconst hx hb 0 dX0_lead_2 (by decide) ?_
  refine r_ldc2 hx hb 3 hown (hts _ q924) (by decide) dX0_lead_3 ?_
  refine s_calli (j_runS (n := 3) (rest := []) (as := [.long (iL k), .long (iL 0), .long (iL 3)]) hx hb hml hown hts ((cin l k 0 3 (by omega) (by decide) (by decide)).jm) (fun _ _ _ _ _ => trivial) (fun _ _ _ => trivial) q296 q297 q68 q298 (by decide +kernel) ⟨rfl, rfl⟩ hR (by decide) ⟨Nat.zero_le _, Nat.zero_le _⟩ rfl hl.1 rfl (Nat.le_of_ble_eq_true rfl) dX0_lead_6) ?_
  refine r_ifeqB (tgt := 24) hx hb dX0_lead_9 (by decide) (fun c1 => ?_) (fun c1 => ?_)
  · refine r_ldc hx hb (-2147483648) hown (hts _ q746) (by decide) dX0_lead_24 ?_
    exact j_iret hC hr hlk hQ dX0_lead_26 (by rw [if_neg (by omega)])
  · refine lv_aload_n hx hb dX0_lead_12 rfl (lv_at hl 0 rfl) ?_
    refine cg_X0_68 hCK hG dX0_lead_13 ?_
    refine cg_X0_294 hCK hE hG (r := 19) (Or.inl rfl) dX0_lead_16 ?_
    refine lv_iload_n hx hb dX0_lead_19 rfl (lv_at hl 1 rfl) ?_
    refine cl_s1 (v := Y (22 + 4 * (19 - 19)) k) (r := 19) hCK hG (Or.inl rfl) (by omega) rfl dX0_lead_20 ?_
    refine lv_goto (tgt := 26) hx hb dX0_lead_21 (by decide) ?_
    exact j_iret hC hr hlk hQ dX0_lead_26 (by rw [if_pos (by omega)])
theorem dX0_wetted_0 : decode cX0_wetted 0 = .ok (.iload_n 1, 1) := by decide +kernel
theorem dX0_wetted_1 : decode cX0_wetted 1 = .ok (.i2l, 1) := by decide +kernel
theorem dX0_wetted_2 : decode cX0_wetted 2 = .ok (.lconst 0, 1) := by decide +kernel
theorem dX0_wetted_3 : decode cX0_wetted 3 = .ok (.aload_n 0, 1) := by decide +kernel
theorem dX0_wetted_4 : decode cX0_wetted 4 = .ok (.getfield 186, 3) := by decide +kernel
theorem dX0_wetted_7 : decode cX0_wetted 7 = .ok (.iconst 1, 1) := by decide +kernel
theorem dX0_wetted_8 : decode cX0_wetted 8 = .ok (.isub, 1) := by decide +kernel
theorem dX0_wetted_9 : decode cX0_wetted 9 = .ok (.i2l, 1) := by decide +kernel
theorem dX0_wetted_10 : decode cX0_wetted 10 = .ok (.invokestatic 101, 3) := by decide +kernel
theorem dX0_wetted_13 : decode cX0_wetted 13 = .ok (.ifCond .eq 15, 3) := by decide +kernel
theorem dX0_wetted_16 : decode cX0_wetted 16 = .ok (.aload_n 0, 1) := by decide +kernel
theorem dX0_wetted_17 : decode cX0_wetted 17 = .ok (.getfield 68, 3) := by decide +kernel
theorem dX0_wetted_20 : decode cX0_wetted 20 = .ok (.getfield 351, 3) := by decide +kernel
theorem dX0_wetted_23 : decode cX0_wetted 23 = .ok (.iload_n 1, 1) := by decide +kernel
theorem dX0_wetted_24 : decode cX0_wetted 24 = .ok (.iaload, 1) := by decide +kernel
theorem dX0_wetted_25 : decode cX0_wetted 25 = .ok (.goto 4, 3) := by decide +kernel
theorem dX0_wetted_28 : decode cX0_wetted 28 = .ok (.iconst (-1), 1) := by decide +kernel
theorem dX0_wetted_29 : decode cX0_wetted 29 = .ok (.ireturn, 1) := by decide +kernel
set_option maxHeartbeats 4000000 in
theorem cwetted (l : Launch) (adK adV st : Nat → Nat) (D : va_G) (E : Nat → ClassId) (A : Nat → Prop) (ad nv : Nat → Nat) (I : Nat → Int) (F : Nat → Int → Int) (S : Nat → Nat → Int) (Y : Nat → Int → Int) (L : Nat → Nat) (mk : Int) (r_m : R32 mk) (gm0 : gMark I F) : JM l yX0_wetted cX0_wetted 2 (some .int) (mrm 1) (CX adK adV st D E A ad nv I F S Y L) [.ref (ad 0), .int (iI mk)] (vp_Si (fun r => r = iI (if 0 ≤ mk ∧ mk < I 15 then Y 23 mk else -1))) := by
  refine j_start (by decide) rfl (Nat.le_of_ble_eq_true rfl) ?_
  intro p e R s m args below meth c ls Q hR hQ hC hml hr hlk hB hl
  have hx := hC.1
  have hb := hC.2.1
  have hown := hC.2.2.1
  have hts := hC.2.2.2
  have hS : va_S A s.heap s.heap [] := va_S.rf
  have hK := hB.1
  have hG := hB.2.1
  have hE := hB.2.2
  have hCK : CK p m c _ s args _ D E := ⟨hx, hb, hown, hts, hK⟩
  have hl : lv_has ls 2 [(0, .ref (ad 0)), (1, .int (iI mk))] := hl
  obtain ⟨i15, a16, a17⟩ := id gm0
  refine lv_iload_n hx hb dX0_wetted_0 rfl (lv_at hl 1 rfl) ?_
  refine r_i2l hx hb dX0_wetted_1 (by omega) ?_
  refine r_lconst hx hb 0 dX0_wetted_2 (by decide) ?_
  refine lv_aload_n hx hb dX0_wetted_3 rfl (lv_at hl 0 rfl) ?_
  refine cg_X0_186 (v := I 15) hCK hG rfl dX0_wetted_4 ?_
  refine r_iconst hx hb dX0_wetted_7 ?_
  refine r_isub hx hb dX0_wetted_8 ?_
  refine r_i2l hx hb dX0_wetted_9 (by omega) ?_
  refine s_calli (j_runS (n := 3) (rest := []) (as := [.long (iL mk), .long (iL 0), .long (iL ((I 15) - 1))]) hx hb hml hown hts ((cin l mk 0 ((I 15) - 1) (by omega) (by decide) (by omega)).jm) (fun _ _ _ _ _ => trivial) (fun _ _ _ => trivial) q296 q297 q68 q298 (by decide +kernel) ⟨rfl, rfl⟩ hR (by decide) ⟨Nat.zero_le _, Nat.zero_le _⟩ rfl hl.1 rfl (Nat.le_of_ble_eq_true rfl) dX0_wetted_10) ?_
  refine r_ifeqB (tgt := 28) hx hb dX0_wetted_13 (by decide) (fun c1 => ?_) (fun c1 => ?_)
  · refine r_iconst hx hb dX0_wetted_28 ?_
    exact j_iret hC hr hlk hQ dX0_wetted_29 (by rw [if_neg (by omega)])
  · refine lv_aload_n hx hb dX0_wetted_16 rfl (lv_at hl 0 rfl) ?_
    refine cg_X0_68 hCK hG dX0_wetted_17 ?_
    refine cg_X0_351 hCK hE hG (r := 19) (Or.inl rfl) dX0_wetted_20 ?_
    refine lv_iload_n hx hb dX0_wetted_23 rfl (lv_at hl 1 rfl) ?_
    refine cl_s2 (v := Y (23 + 4 * (19 - 19)) mk) (r := 19) hCK hG (Or.inl rfl) (by omega) rfl dX0_wetted_24 ?_
    refine lv_goto (tgt := 29) hx hb dX0_wetted_25 (by decide) ?_
    exact j_iret hC hr hlk hQ dX0_wetted_29 (by rw [if_pos (by omega)])
theorem dX0_place_0 : decode cX0_place 0 = .ok (.aload_n 0, 1) := by decide +kernel
theorem dX0_place_1 : decode cX0_place 1 = .ok (.iload_n 1, 1) := by decide +kernel
theorem dX0_place_2 : decode cX0_place 2 = .ok (.invokevirtual 167, 3) := by decide +kernel
theorem dX0_place_5 : decode cX0_place 5 = .ok (.ifnonnull 8, 3) := by decide +kernel
theorem dX0_place_8 : decode cX0_place 8 = .ok (.ldc 206, 2) := by decide +kernel
theorem dX0_place_10 : decode cX0_place 10 = .ok (.goto 12, 3) := by decide +kernel
theorem dX0_place_13 : decode cX0_place 13 = .ok (.aload_n 0, 1) := by decide +kernel
theorem dX0_place_14 : decode cX0_place 14 = .ok (.getfield 68, 3) := by decide +kernel
theorem dX0_place_17 : decode cX0_place 17 = .ok (.getfield 151, 3) := by decide +kernel
theorem dX0_place_20 : decode cX0_place 20 = .ok (.iload_n 1, 1) := by decide +kernel
theorem dX0_place_21 : decode cX0_place 21 = .ok (.iaload, 1) := by decide +kernel
theorem dX0_place_22 : decode cX0_place 22 = .ok (.ireturn, 1) := by decide +kernel
set_option maxHeartbeats 4000000 in
theorem cplaceW (l : Launch) (adK adV st : Nat → Nat) (D : va_G) (E : Nat → ClassId) (A : Nat → Prop) (ad nv : Nat → Nat) (I : Nat → Int) (F : Nat → Int → Int) (S : Nat → Nat → Int) (Y : Nat → Int → Int) (L : Nat → Nat) (wt : Int) (r_w : R32 wt) (hn : cOK nv I L) (gl0 : gLoad I F) : JM l yX0_place cX0_place 2 (some .int) (mrm 4) (CX adK adV st D E A ad nv I F S Y L) [.ref (ad 0), .int (iI wt)] (vp_Si (fun r => r = iI (if 0 ≤ wt ∧ wt < I 4 ∧ F 9 wt = 0 then Y 21 wt else -2147483648))) := by
  refine j_start (by decide) rfl (Nat.le_of_ble_eq_true rfl) ?_
  intro p e R s m args below meth c ls Q hR hQ hC hml hr hlk hB hl
  have hx := hC.1
  have hb := hC.2.1
  have hown := hC.2.2.1
  have hts := hC.2.2.2
  have hS : va_S A s.heap s.heap [] := va_S.rf
  have hK := hB.1
  have hG := hB.2.1
  have hE := hB.2.2
  have hCK : CK p m c _ s args _ D E := ⟨hx, hb, hown, hts, hK⟩
  have hl : lv_has ls 2 [(0, .ref (ad 0)), (1, .int (iI wt))] := hl
  obtain ⟨i4, a5, a6, a7, a8, a9, i10, a11, a12, a13, a14, a14h⟩ := id gl0
  refine lv_aload_n hx hb dX0_place_0 rfl (lv_at hl 0 rfl) ?_
  refine lv_iload_n hx hb dX0_place_1 rfl (lv_at hl 1 rfl) ?_
  refine j_callr (j_runV (n := 1) (C := RX0) (b := ad 0) (rest := []) (as := [.int (iI wt)]) hx hb hml hown hts (cwat l adK adV st D E A ad nv I F S Y L wt (by omega) hn gl0) GB.blind (GB.at hK hG hE hS) (g_rec (r := 0) (ci := 0) hK hG (Or.inl (by decide)) rfl cC_0) q699 q701 qs17 q68 q702 (by decide +kernel) ⟨rfl, rfl⟩ hR (by decide) ⟨Nat.zero_le _, Nat.zero_le _⟩ rfl hl.1 rfl (Nat.le_of_ble_eq_true rfl) dX0_place_2) ?_
  by_cases cq : 0 ≤ wt ∧ wt < I 4 ∧ F 9 wt = 0
  · rw [if_pos cq]
    refine lv_ifnonnull (tgt := 13) hx hb dX0_place_5 (by decide) ?_
    refine lv_aload_n hx hb dX0_place_13 rfl (lv_at hl 0 rfl) ?_
    refine cg_X0_68 hCK hG dX0_place_14 ?_
    refine cg_X0_151 hCK hE hG (r := 19) (Or.inl rfl) dX0_place_17 ?_
    refine lv_iload_n hx hb dX0_place_20 rfl (lv_at hl 1 rfl) ?_
    refine cl_s0 (v := Y (21 + 4 * (19 - 19)) wt) (r := 19) hCK hG (Or.inl rfl) (by omega) rfl dX0_place_21 ?_
    exact j_iret hC hr hlk hQ dX0_place_22 (by rw [if_pos cq])
  · rw [if_neg cq]
    refine lv_ifnonnullN hx hb dX0_place_5 ?_
    refine r_ldc hx hb (-2147483648) hown (hts _ q746) (by decide) dX0_place_8 ?_
    refine lv_goto (tgt := 22) hx hb dX0_place_10 (by decide) ?_
    exact j_iret hC hr hlk hQ dX0_place_22 (by rw [if_neg cq])
theorem dX0_count_0 : decode cX0_count 0 = .ok (.iload_n 1, 1) := by decide +kernel
theorem dX0_count_1 : decode cX0_count 1 = .ok (.tableswitch 164 0 12 #[67, 75, 83, 91, 99, 107, 112, 117, 125, 133, 149, 154, 159], 67) := by decide +kernel
theorem dX0_count_68 : decode cX0_count 68 = .ok (.aload_n 0, 1) := by decide +kernel
theorem dX0_count_69 : decode cX0_count 69 = .ok (.getfield 68, 3) := by decide +kernel
theorem dX0_count_72 : decode cX0_count 72 = .ok (.getfield 271, 3) := by decide +kernel
theorem dX0_count_75 : decode cX0_count 75 = .ok (.ireturn, 1) := by decide +kernel
theorem dX0_count_76 : decode cX0_count 76 = .ok (.aload_n 0, 1) := by decide +kernel
theorem dX0_count_77 : decode cX0_count 77 = .ok (.getfield 34, 3) := by decide +kernel
theorem dX0_count_80 : decode cX0_count 80 = .ok (.invokevirtual 125, 3) := by decide +kernel
theorem dX0_count_83 : decode cX0_count 83 = .ok (.ireturn, 1) := by decide +kernel
theorem dX0_count_84 : decode cX0_count 84 = .ok (.aload_n 0, 1) := by decide +kernel
theorem dX0_count_85 : decode cX0_count 85 = .ok (.getfield 38, 3) := by decide +kernel
theorem dX0_count_88 : decode cX0_count 88 = .ok (.invokevirtual 125, 3) := by decide +kernel
theorem dX0_count_91 : decode cX0_count 91 = .ok (.ireturn, 1) := by decide +kernel
theorem dX0_count_92 : decode cX0_count 92 = .ok (.aload_n 0, 1) := by decide +kernel
theorem dX0_count_93 : decode cX0_count 93 = .ok (.getfield 41, 3) := by decide +kernel
theorem dX0_count_96 : decode cX0_count 96 = .ok (.invokevirtual 125, 3) := by decide +kernel
theorem dX0_count_99 : decode cX0_count 99 = .ok (.ireturn, 1) := by decide +kernel
theorem dX0_count_100 : decode cX0_count 100 = .ok (.aload_n 0, 1) := by decide +kernel
theorem dX0_count_101 : decode cX0_count 101 = .ok (.getfield 44, 3) := by decide +kernel
theorem dX0_count_104 : decode cX0_count 104 = .ok (.invokevirtual 125, 3) := by decide +kernel
theorem dX0_count_107 : decode cX0_count 107 = .ok (.ireturn, 1) := by decide +kernel
theorem dX0_count_108 : decode cX0_count 108 = .ok (.aload_n 0, 1) := by decide +kernel
theorem dX0_count_109 : decode cX0_count 109 = .ok (.getfield 186, 3) := by decide +kernel
theorem dX0_count_112 : decode cX0_count 112 = .ok (.ireturn, 1) := by decide +kernel
theorem dX0_count_113 : decode cX0_count 113 = .ok (.aload_n 0, 1) := by decide +kernel
theorem dX0_count_114 : decode cX0_count 114 = .ok (.getfield 95, 3) := by decide +kernel
theorem dX0_count_117 : decode cX0_count 117 = .ok (.ireturn, 1) := by decide +kernel
theorem dX0_count_118 : decode cX0_count 118 = .ok (.aload_n 0, 1) := by decide +kernel
theorem dX0_count_119 : decode cX0_count 119 = .ok (.getfield 68, 3) := by decide +kernel
theorem dX0_count_122 : decode cX0_count 122 = .ok (.getfield 315, 3) := by decide +kernel
theorem dX0_count_125 : decode cX0_count 125 = .ok (.ireturn, 1) := by decide +kernel
theorem dX0_count_126 : decode cX0_count 126 = .ok (.aload_n 0, 1) := by decide +kernel
theorem dX0_count_127 : decode cX0_count 127 = .ok (.getfield 68, 3) := by decide +kernel
theorem dX0_count_130 : decode cX0_count 130 = .ok (.getfield 318, 3) := by decide +kernel
theorem dX0_count_133 : decode cX0_count 133 = .ok (.ireturn, 1) := by decide +kernel
theorem dX0_count_134 : decode cX0_count 134 = .ok (.aload_n 0, 1) := by decide +kernel
theorem dX0_count_135 : decode cX0_count 135 = .ok (.getfield 68, 3) := by decide +kernel
theorem dX0_count_138 : decode cX0_count 138 = .ok (.getfield 274, 3) := by decide +kernel
theorem dX0_count_141 : decode cX0_count 141 = .ok (.ifCond .eq 7, 3) := by decide +kernel
theorem dX0_count_144 : decode cX0_count 144 = .ok (.iconst 1, 1) := by decide +kernel
theorem dX0_count_145 : decode cX0_count 145 = .ok (.goto 4, 3) := by decide +kernel
theorem dX0_count_148 : decode cX0_count 148 = .ok (.iconst 0, 1) := by decide +kernel
theorem dX0_count_149 : decode cX0_count 149 = .ok (.ireturn, 1) := by decide +kernel
theorem dX0_count_150 : decode cX0_count 150 = .ok (.aload_n 0, 1) := by decide +kernel
theorem dX0_count_151 : decode cX0_count 151 = .ok (.getfield 321, 3) := by decide +kernel
theorem dX0_count_154 : decode cX0_count 154 = .ok (.ireturn, 1) := by decide +kernel
theorem dX0_count_155 : decode cX0_count 155 = .ok (.aload_n 0, 1) := by decide +kernel
theorem dX0_count_156 : decode cX0_count 156 = .ok (.getfield 335, 3) := by decide +kernel
theorem dX0_count_159 : decode cX0_count 159 = .ok (.ireturn, 1) := by decide +kernel
theorem dX0_count_160 : decode cX0_count 160 = .ok (.aload_n 0, 1) := by decide +kernel
theorem dX0_count_161 : decode cX0_count 161 = .ok (.invokevirtual 199, 3) := by decide +kernel
theorem dX0_count_164 : decode cX0_count 164 = .ok (.ireturn, 1) := by decide +kernel
theorem dX0_count_165 : decode cX0_count 165 = .ok (.iconst (-1), 1) := by decide +kernel
theorem dX0_count_166 : decode cX0_count 166 = .ok (.ireturn, 1) := by decide +kernel
set_option maxHeartbeats 4000000 in
theorem ccount (l : Launch) (adK adV st : Nat → Nat) (D : va_G) (E : Nat → ClassId) (A : Nat → Prop) (ad nv : Nat → Nat) (I : Nat → Int) (F : Nat → Int → Int) (S : Nat → Nat → Int) (Y : Nat → Int → Int) (L : Nat → Nat) (wh : Int) (r_w : R32 wh) (hn : cOK nv I L) (gl0 : gLoad I F) (b32 : 0 ≤ S 19 11 ∧ S 19 11 ≤ 1) : JM l yX0_count cX0_count 2 (some .int) (mrm 4) (CX adK adV st D E A ad nv I F S Y L) [.ref (ad 0), .int (iI wh)] (vp_Si (fun r => r = iI (if wh = 0 then S 19 7 else if wh = 1 then I 1 else if wh = 2 then I 4 else if wh = 3 then I 10 else if wh = 4 then I 18 else if wh = 5 then I 15 else if wh = 6 then I 48 else if wh = 7 then S 19 8 else if wh = 8 then S 19 9 else if wh = 9 then (if S 19 11 = 0 then 0 else 1) else if wh = 10 then I 41 else if wh = 11 then I 45 else if wh = 12 then heavyS (I 4) (F 9) (F 5) (I 10) (F 14) else -1))) := by
  refine j_start (by decide) rfl (Nat.le_of_ble_eq_true rfl) ?_
  intro p e R s m args below meth c ls Q hR hQ hC hml hr hlk hB hl
  have hx := hC.1
  have hb := hC.2.1
  have hown := hC.2.2.1
  have hts := hC.2.2.2
  have hS : va_S A s.heap s.heap [] := va_S.rf
  have hK := hB.1
  have hG := hB.2.1
  have hE := hB.2.2
  have hCK : CK p m c _ s args _ D E := ⟨hx, hb, hown, hts, hK⟩
  have hl : lv_has ls 2 [(0, .ref (ad 0)), (1, .int (iI wh))] := hl
  refine lv_iload_n hx hb dX0_count_0 rfl (lv_at hl 1 rfl) ?_
  rcases (show ((wh) < 0 ∨ 12 < (wh)) ∨ (wh) = 0 ∨ (wh) = 1 ∨ (wh) = 2 ∨ (wh) = 3 ∨ (wh) = 4 ∨ (wh) = 5 ∨ (wh) = 6 ∨ (wh) = 7 ∨ (wh) = 8 ∨ (wh) = 9 ∨ (wh) = 10 ∨ (wh) = 11 ∨ (wh) = 12 by omega) with hsw | rfl | rfl | rfl | rfl | rfl | rfl | rfl | rfl | rfl | rfl | rfl | rfl | rfl
  · refine lv_tableOut (tgt := 165) hx hb dX0_count_1 (by rw [iI_toInt (by omega)]; exact hsw) (by decide) ?_
    refine r_iconst hx hb dX0_count_165 ?_
    exact j_iret hC hr hlk hQ dX0_count_166 (by repeat rw [if_neg (by omega)])
  · refine lv_tableIn (tgt := 68) (off := 67) hx hb dX0_count_1 (by decide) (by decide) (by decide) (by decide) ?_
    refine lv_aload_n hx hb dX0_count_68 rfl (lv_at hl 0 rfl) ?_
    refine cg_X0_68 hCK hG dX0_count_69 ?_
    refine cg_X0_271 (v := S 19 7) hCK hE hG (r := 19) (Or.inl rfl) rfl dX0_count_72 ?_
    exact j_iret hC hr hlk hQ dX0_count_75 (rfl)
  · refine lv_tableIn (tgt := 76) (off := 75) hx hb dX0_count_1 (by decide) (by decide) (by decide) (by decide) ?_
    refine lv_aload_n hx hb dX0_count_76 rfl (lv_at hl 0 rfl) ?_
    refine cg_X0_34 hCK hG dX0_count_77 ?_
    refine s_calli (j_runV (n := 0) (C := RJ2) (b := ad 11) (rest := []) (as := []) hx hb hml hown hts (lsz_11 l adK adV st D E A ad nv I F S Y L) GB.blind (GB.at hK hG hE hS) (g_rec (r := 11) (ci := 10) hK hG (Or.inl (by decide)) rfl (cC_l (by decide))) q641 q614 q615 q71 q616 (by decide +kernel) ⟨rfl, rfl⟩ hR (by decide) ⟨Nat.zero_le _, Nat.zero_le _⟩ rfl hl.1 rfl (Nat.le_of_ble_eq_true rfl) dX0_count_80) ?_
    exact j_iret hC hr hlk hQ dX0_count_83 (rfl)
  · refine lv_tableIn (tgt := 84) (off := 83) hx hb dX0_count_1 (by decide) (by decide) (by decide) (by decide) ?_
    refine lv_aload_n hx hb dX0_count_84 rfl (lv_at hl 0 rfl) ?_
    refine cg_X0_38 hCK hG dX0_count_85 ?_
    refine s_calli (j_runV (n := 0) (C := RJ2) (b := ad 12) (rest := []) (as := []) hx hb hml hown hts (lsz_12 l adK adV st D E A ad nv I F S Y L) GB.blind (GB.at hK hG hE hS) (g_rec (r := 12) (ci := 10) hK hG (Or.inl (by decide)) rfl (cC_l (by decide))) q641 q614 q615 q71 q616 (by decide +kernel) ⟨rfl, rfl⟩ hR (by decide) ⟨Nat.zero_le _, Nat.zero_le _⟩ rfl hl.1 rfl (Nat.le_of_ble_eq_true rfl) dX0_count_88) ?_
    exact j_iret hC hr hlk hQ dX0_count_91 (rfl)
  · refine lv_tableIn (tgt := 92) (off := 91) hx hb dX0_count_1 (by decide) (by decide) (by decide) (by decide) ?_
    refine lv_aload_n hx hb dX0_count_92 rfl (lv_at hl 0 rfl) ?_
    refine cg_X0_41 hCK hG dX0_count_93 ?_
    refine s_calli (j_runV (n := 0) (C := RJ2) (b := ad 13) (rest := []) (as := []) hx hb hml hown hts (lsz_13 l adK adV st D E A ad nv I F S Y L) GB.blind (GB.at hK hG hE hS) (g_rec (r := 13) (ci := 10) hK hG (Or.inl (by decide)) rfl (cC_l (by decide))) q641 q614 q615 q71 q616 (by decide +kernel) ⟨rfl, rfl⟩ hR (by decide) ⟨Nat.zero_le _, Nat.zero_le _⟩ rfl hl.1 rfl (Nat.le_of_ble_eq_true rfl) dX0_count_96) ?_
    exact j_iret hC hr hlk hQ dX0_count_99 (rfl)
  · refine lv_tableIn (tgt := 100) (off := 99) hx hb dX0_count_1 (by decide) (by decide) (by decide) (by decide) ?_
    refine lv_aload_n hx hb dX0_count_100 rfl (lv_at hl 0 rfl) ?_
    refine cg_X0_44 hCK hG dX0_count_101 ?_
    refine s_calli (j_runV (n := 0) (C := RJ2) (b := ad 14) (rest := []) (as := []) hx hb hml hown hts (lsz_14 l adK adV st D E A ad nv I F S Y L) GB.blind (GB.at hK hG hE hS) (g_rec (r := 14) (ci := 10) hK hG (Or.inl (by decide)) rfl (cC_l (by decide))) q641 q614 q615 q71 q616 (by decide +kernel) ⟨rfl, rfl⟩ hR (by decide) ⟨Nat.zero_le _, Nat.zero_le _⟩ rfl hl.1 rfl (Nat.le_of_ble_eq_true rfl) dX0_count_104) ?_
    exact j_iret hC hr hlk hQ dX0_count_107 (rfl)
  · refine lv_tableIn (tgt := 108) (off := 107) hx hb dX0_count_1 (by decide) (by decide) (by decide) (by decide) ?_
    refine lv_aload_n hx hb dX0_count_108 rfl (lv_at hl 0 rfl) ?_
    refine cg_X0_186 (v := I 15) hCK hG rfl dX0_count_109 ?_
    exact j_iret hC hr hlk hQ dX0_count_112 (rfl)
  · refine lv_tableIn (tgt := 113) (off := 112) hx hb dX0_count_1 (by decide) (by decide) (by decide) (by decide) ?_
    refine lv_aload_n hx hb dX0_count_113 rfl (lv_at hl 0 rfl) ?_
    refine cg_X0_95 (v := I 48) hCK hG rfl dX0_count_114 ?_
    exact j_iret hC hr hlk hQ dX0_count_117 (rfl)
  · refine lv_tableIn (tgt := 118) (off := 117) hx hb dX0_count_1 (by decide) (by decide) (by decide) (by decide) ?_
    refine lv_aload_n hx hb dX0_count_118 rfl (lv_at hl 0 rfl) ?_
    refine cg_X0_68 hCK hG dX0_count_119 ?_
    refine cg_X0_315 (v := S 19 8) hCK hE hG (r := 19) (Or.inl rfl) rfl dX0_count_122 ?_
    exact j_iret hC hr hlk hQ dX0_count_125 (rfl)
  · refine lv_tableIn (tgt := 126) (off := 125) hx hb dX0_count_1 (by decide) (by decide) (by decide) (by decide) ?_
    refine lv_aload_n hx hb dX0_count_126 rfl (lv_at hl 0 rfl) ?_
    refine cg_X0_68 hCK hG dX0_count_127 ?_
    refine cg_X0_318 (v := S 19 9) hCK hE hG (r := 19) (Or.inl rfl) rfl dX0_count_130 ?_
    exact j_iret hC hr hlk hQ dX0_count_133 (rfl)
  · refine lv_tableIn (tgt := 134) (off := 133) hx hb dX0_count_1 (by decide) (by decide) (by decide) (by decide) ?_
    refine lv_aload_n hx hb dX0_count_134 rfl (lv_at hl 0 rfl) ?_
    refine cg_X0_68 hCK hG dX0_count_135 ?_
    refine cg_X0_274 (v := S 19 11) hCK hE hG (r := 19) (Or.inl rfl) rfl dX0_count_138 ?_
    refine r_if_eq (tgt := 148) hx hb dX0_count_141 (by decide) (by omega) (fun cz => ?_) (fun cz => ?_)
    · refine r_iconst hx hb dX0_count_148 ?_
      exact j_iret hC hr hlk hQ dX0_count_149 ((if_pos cz).symm)
    · refine r_iconst hx hb dX0_count_144 ?_
      refine lv_goto (tgt := 149) hx hb dX0_count_145 (by decide) ?_
      exact j_iret hC hr hlk hQ dX0_count_149 ((if_neg cz).symm)
  · refine lv_tableIn (tgt := 150) (off := 149) hx hb dX0_count_1 (by decide) (by decide) (by decide) (by decide) ?_
    refine lv_aload_n hx hb dX0_count_150 rfl (lv_at hl 0 rfl) ?_
    refine cg_X0_321 (v := I 41) hCK hG rfl dX0_count_151 ?_
    exact j_iret hC hr hlk hQ dX0_count_154 (rfl)
  · refine lv_tableIn (tgt := 155) (off := 154) hx hb dX0_count_1 (by decide) (by decide) (by decide) (by decide) ?_
    refine lv_aload_n hx hb dX0_count_155 rfl (lv_at hl 0 rfl) ?_
    refine cg_X0_335 (v := I 45) hCK hG rfl dX0_count_156 ?_
    exact j_iret hC hr hlk hQ dX0_count_159 (rfl)
  · refine lv_tableIn (tgt := 160) (off := 159) hx hb dX0_count_1 (by decide) (by decide) (by decide) (by decide) ?_
    refine lv_aload_n hx hb dX0_count_160 rfl (lv_at hl 0 rfl) ?_
    refine s_calli (j_runV (n := 0) (C := RX0) (b := ad 0) (rest := []) (as := []) hx hb hml hown hts (cheavy l adK adV st D E A ad nv I F S Y L hn gl0) GB.blind (GB.at hK hG hE hS) (g_rec (r := 0) (ci := 0) hK hG (Or.inl (by decide)) rfl cC_0) q751 q753 qs19 q68 q754 (by decide +kernel) ⟨rfl, rfl⟩ hR (by decide) ⟨Nat.zero_le _, Nat.zero_le _⟩ rfl hl.1 rfl (Nat.le_of_ble_eq_true rfl) dX0_count_161) ?_
    exact j_iret hC hr hlk hQ dX0_count_164 (rfl)
theorem dX0_queasy_0 : decode cX0_queasy 0 = .ok (.aload_n 0, 1) := by decide +kernel
theorem dX0_queasy_1 : decode cX0_queasy 1 = .ok (.getfield 83, 3) := by decide +kernel
theorem dX0_queasy_4 : decode cX0_queasy 4 = .ok (.iload_n 1, 1) := by decide +kernel
theorem dX0_queasy_5 : decode cX0_queasy 5 = .ok (.iaload, 1) := by decide +kernel
theorem dX0_queasy_6 : decode cX0_queasy 6 = .ok (.iload_n 2, 1) := by decide +kernel
theorem dX0_queasy_7 : decode cX0_queasy 7 = .ok (.isub, 1) := by decide +kernel
theorem dX0_queasy_8 : decode cX0_queasy 8 = .ok (.aload_n 0, 1) := by decide +kernel
theorem dX0_queasy_9 : decode cX0_queasy 9 = .ok (.getfield 89, 3) := by decide +kernel
theorem dX0_queasy_12 : decode cX0_queasy 12 = .ok (.isub, 1) := by decide +kernel
theorem dX0_queasy_13 : decode cX0_queasy 13 = .ok (.istore_n 3, 1) := by decide +kernel
theorem dX0_queasy_14 : decode cX0_queasy 14 = .ok (.aload_n 0, 1) := by decide +kernel
theorem dX0_queasy_15 : decode cX0_queasy 15 = .ok (.getfield 80, 3) := by decide +kernel
theorem dX0_queasy_18 : decode cX0_queasy 18 = .ok (.iload_n 1, 1) := by decide +kernel
theorem dX0_queasy_19 : decode cX0_queasy 19 = .ok (.iaload, 1) := by decide +kernel
theorem dX0_queasy_20 : decode cX0_queasy 20 = .ok (.bipush 64, 2) := by decide +kernel
theorem dX0_queasy_22 : decode cX0_queasy 22 = .ok (.imul, 1) := by decide +kernel
theorem dX0_queasy_23 : decode cX0_queasy 23 = .ok (.iconst 1, 1) := by decide +kernel
theorem dX0_queasy_24 : decode cX0_queasy 24 = .ok (.iload_n 3, 1) := by decide +kernel
theorem dX0_queasy_25 : decode cX0_queasy 25 = .ok (.iload_n 3, 1) := by decide +kernel
theorem dX0_queasy_26 : decode cX0_queasy 26 = .ok (.imul, 1) := by decide +kernel
theorem dX0_queasy_27 : decode cX0_queasy 27 = .ok (.iadd, 1) := by decide +kernel
theorem dX0_queasy_28 : decode cX0_queasy 28 = .ok (.idiv, 1) := by decide +kernel
theorem dX0_queasy_29 : decode cX0_queasy 29 = .ok (.ireturn, 1) := by decide +kernel
set_option maxHeartbeats 4000000 in
theorem cqueasy (l : Launch) (adK adV st : Nat → Nat) (D : va_G) (E : Nat → ClassId) (A : Nat → Prop) (ad nv : Nat → Nat) (I : Nat → Int) (F : Nat → Int → Int) (S : Nat → Nat → Int) (Y : Nat → Int → Int) (L : Nat → Nat) (ho go : Int) (hh : 0 ≤ ho ∧ ho < 12) (hg : 0 ≤ go ∧ go ≤ 3) (gw0 : gWay I F) : JM l yX0_queasy cX0_queasy 4 (some .int) (mrm 0) (CX adK adV st D E A ad nv I F S Y L) [.ref (ad 0), .int (iI ho), .int (iI go)] (vp_Si (fun r => r = iI (queasyS (F 43) (F 42) (I 44) ho go))) := by
  refine j_start (by decide) rfl (Nat.le_of_ble_eq_true rfl) ?_
  intro p e R s m args below meth c ls Q hR hQ hC hml hr hlk hB hl
  have hx := hC.1
  have hb := hC.2.1
  have hown := hC.2.2.1
  have hts := hC.2.2.2
  have hS : va_S A s.heap s.heap [] := va_S.rf
  have hK := hB.1
  have hG := hB.2.1
  have hE := hB.2.2
  have hCK : CK p m c _ s args _ D E := ⟨hx, hb, hown, hts, hK⟩
  have hl : lv_has ls 4 [(0, .ref (ad 0)), (1, .int (iI ho)), (2, .int (iI go))] := hl
  obtain ⟨i41, i44, a42, a43⟩ := id gw0
  have b42 := a42 ho hh.1 hh.2
  have b43 := a43 ho hh.1 hh.2
  have hd := mul_bd (A := 67) (B := 67) (a := F 43 ho - go - I 44) (b := F 43 ho - go - I 44) (by omega) (by omega)
  have hn := sq_nn (F 43 ho - go - I 44)
  refine lv_aload_n hx hb dX0_queasy_0 rfl (lv_at hl 0 rfl) ?_
  refine cg_X0_83 hCK hG dX0_queasy_1 ?_
  refine lv_iload_n hx hb dX0_queasy_4 rfl (lv_at hl 1 rfl) ?_
  refine cl_7 (v := F 43 ho) hCK hG (by omega) rfl dX0_queasy_5 ?_
  refine lv_iload_n hx hb dX0_queasy_6 rfl (lv_at hl 2 rfl) ?_
  refine r_isub hx hb dX0_queasy_7 ?_
  refine lv_aload_n hx hb dX0_queasy_8 rfl (lv_at hl 0 rfl) ?_
  refine cg_X0_89 (v := I 44) hCK hG rfl dX0_queasy_9 ?_
  refine r_isub hx hb dX0_queasy_12 ?_
  refine lv_istore_n (lv' := [(3, .int (iI (((F 43 ho) - go) - (I 44)))), (0, .ref (ad 0)), (1, .int (iI ho)), (2, .int (iI go))]) hx hb dX0_queasy_13 rfl hl (by decide) rfl (fun ls hl => ?_)
  refine lv_aload_n hx hb dX0_queasy_14 rfl (lv_at hl 1 rfl) ?_
  refine cg_X0_80 hCK hG dX0_queasy_15 ?_
  refine lv_iload_n hx hb dX0_queasy_18 rfl (lv_at hl 2 rfl) ?_
  refine cl_6 (v := F 42 ho) hCK hG (by omega) rfl dX0_queasy_19 ?_
  refine r_bipush hx hb dX0_queasy_20 (by decide) ?_
  refine r_imul hx hb dX0_queasy_22 ?_
  refine r_iconst hx hb dX0_queasy_23 ?_
  refine lv_iload_n hx hb dX0_queasy_24 rfl (lv_at hl 0 rfl) ?_
  refine lv_iload_n hx hb dX0_queasy_25 rfl (lv_at hl 0 rfl) ?_
  refine r_imul hx hb dX0_queasy_26 ?_
  refine r_iadd hx hb dX0_queasy_27 ?_
  refine r_idiv hx hb dX0_queasy_28 (by omega) (by omega) (by omega) ?_
  exact j_iret hC hr hlk hQ dX0_queasy_29 (by unfold queasyS; rw [Int.mul_comm 64])
theorem dX0_goesWith_0 : decode cX0_goesWith 0 = .ok (.iconst 0, 1) := by decide +kernel
theorem dX0_goesWith_1 : decode cX0_goesWith 1 = .ok (.istore_n 2, 1) := by decide +kernel
theorem dX0_goesWith_2 : decode cX0_goesWith 2 = .ok (.iconst 0, 1) := by decide +kernel
theorem dX0_goesWith_3 : decode cX0_goesWith 3 = .ok (.istore_n 3, 1) := by decide +kernel
theorem dX0_goesWith_4 : decode cX0_goesWith 4 = .ok (.iload_n 3, 1) := by decide +kernel
theorem dX0_goesWith_5 : decode cX0_goesWith 5 = .ok (.aload_n 0, 1) := by decide +kernel
theorem dX0_goesWith_6 : decode cX0_goesWith 6 = .ok (.getfield 335, 3) := by decide +kernel
theorem dX0_goesWith_9 : decode cX0_goesWith 9 = .ok (.if_icmp .ge 24, 3) := by decide +kernel
theorem dX0_goesWith_12 : decode cX0_goesWith 12 = .ok (.iload_n 2, 1) := by decide +kernel
theorem dX0_goesWith_13 : decode cX0_goesWith 13 = .ok (.aload_n 0, 1) := by decide +kernel
theorem dX0_goesWith_14 : decode cX0_goesWith 14 = .ok (.getfield 92, 3) := by decide +kernel
theorem dX0_goesWith_17 : decode cX0_goesWith 17 = .ok (.iload_n 3, 1) := by decide +kernel
theorem dX0_goesWith_18 : decode cX0_goesWith 18 = .ok (.iaload, 1) := by decide +kernel
theorem dX0_goesWith_19 : decode cX0_goesWith 19 = .ok (.aload_n 1, 1) := by decide +kernel
theorem dX0_goesWith_20 : decode cX0_goesWith 20 = .ok (.iload_n 3, 1) := by decide +kernel
theorem dX0_goesWith_21 : decode cX0_goesWith 21 = .ok (.invokevirtual 338, 3) := by decide +kernel
theorem dX0_goesWith_24 : decode cX0_goesWith 24 = .ok (.imul, 1) := by decide +kernel
theorem dX0_goesWith_25 : decode cX0_goesWith 25 = .ok (.iadd, 1) := by decide +kernel
theorem dX0_goesWith_26 : decode cX0_goesWith 26 = .ok (.istore_n 2, 1) := by decide +kernel
theorem dX0_goesWith_27 : decode cX0_goesWith 27 = .ok (.iinc 3 1, 3) := by decide +kernel
theorem dX0_goesWith_30 : decode cX0_goesWith 30 = .ok (.goto (-26), 3) := by decide +kernel
theorem dX0_goesWith_33 : decode cX0_goesWith 33 = .ok (.iload_n 2, 1) := by decide +kernel
theorem dX0_goesWith_34 : decode cX0_goesWith 34 = .ok (.ireturn, 1) := by decide +kernel
set_option maxHeartbeats 4000000 in
theorem cgoesWith (l : Launch) (adK adV st : Nat → Nat) (D : va_G) (E : Nat → ClassId) (A : Nat → Prop) (ad nv : Nat → Nat) (I : Nat → Int) (F : Nat → Int → Int) (S : Nat → Nat → Int) (Y : Nat → Int → Int) (L : Nat → Nat) (k : Int) (hk : 0 ≤ k ∧ k < I 18) (hn : cOK nv I L) (gs0 : gSea I F) (gr0 : gRec I F) : JM l yX0_goesWith cX0_goesWith 4 (some .int) (mrm 1) (CX adK adV st D E A ad nv I F S Y L) [.ref (ad 0), .ref (ad (3400 + k.toNat))] (vp_Si (fun r => r = iI (gwS (I 45) (F 46) (F 20 k) (F 21 k)))) := by
  refine j_start (by decide) rfl (Nat.le_of_ble_eq_true rfl) ?_
  intro p e R s m args below meth c ls Q hR hQ hC hml hr hlk hB hl
  have hx := hC.1
  have hb := hC.2.1
  have hown := hC.2.2.1
  have hts := hC.2.2.2
  have hS : va_S A s.heap s.heap [] := va_S.rf
  have hK := hB.1
  have hG := hB.2.1
  have hE := hB.2.2
  have hCK : CK p m c _ s args _ D E := ⟨hx, hb, hown, hts, hK⟩
  have hl : lv_has ls 4 [(0, .ref (ad 0)), (1, .ref (ad (3400 + k.toNat)))] := hl
  obtain ⟨⟨n0, n1, n2, n3⟩, ⟨l0, l1, l2, l3⟩, c0, c1, c2, c3⟩ := id hn
  obtain ⟨i18, a0, a19, a20, a21⟩ := id gs0
  obtain ⟨i45, a46⟩ := id gr0
  refine r_iconst hx hb dX0_goesWith_0 ?_
  refine lv_istore_n (lv' := [(2, .int (iI 0)), (0, .ref (ad 0)), (1, .ref (ad (3400 + k.toNat)))]) hx hb dX0_goesWith_1 rfl hl (by decide) rfl (fun ls hl => ?_)
  refine r_iconst hx hb dX0_goesWith_2 ?_
  refine lv_istore_n (lv' := [(3, .int (iI 0)), (2, .int (iI 0)), (0, .ref (ad 0)), (1, .ref (ad (3400 + k.toNat)))]) hx hb dX0_goesWith_3 rfl hl (by decide) rfl (fun ls hl => ?_)
  have loop4_1 : ∀ (n : Nat) (x j : Int), I 45 - j < (n : Int) → x = sm (fun t => F 46 t * sineS (F 20 k) (F 21 k) t) j → 0 ≤ j → j ≤ I 45 → ∀ (ls : Array Slot), lv_has ls 4 [(3, .int (iI j)), (2, .int (iI x)), (0, .ref (ad 0)), (1, .ref (ad (3400 + k.toNat)))] → W p l e R s m args below meth c s.heap [] 0 0 Q (F0 m 4 ls []) := by
    intro n
    induction n with
    | zero => intro x j hn3 ex hj0 hj1; exfalso; omega
    | succ n ih2 =>
      intro x j hn3 ex hj0 hj1 ls hl
      refine lv_iload_n hx hb dX0_goesWith_4 rfl (lv_at hl 0 rfl) ?_
      refine lv_aload_n hx hb dX0_goesWith_5 rfl (lv_at hl 2 rfl) ?_
      refine cg_X0_335 (v := I 45) hCK hG rfl dX0_goesWith_6 ?_
      refine r_icmp_ge (tgt := 33) hx hb dX0_goesWith_9 (by decide) (by omega) (by omega) (fun c4 => ?_) (fun c4 => ?_)
      · have ek : j = I 45 := by omega
        refine lv_iload_n hx hb dX0_goesWith_33 rfl (lv_at hl 1 rfl) ?_
        exact j_iret hC hr hlk hQ dX0_goesWith_34 (by unfold gwS; rw [ex, ek])
      · refine lv_iload_n hx hb dX0_goesWith_12 rfl (lv_at hl 1 rfl) ?_
        refine lv_aload_n hx hb dX0_goesWith_13 rfl (lv_at hl 2 rfl) ?_
        refine cg_X0_92 hCK hG dX0_goesWith_14 ?_
        refine lv_iload_n hx hb dX0_goesWith_17 rfl (lv_at hl 0 rfl) ?_
        refine cl_8 (v := F 46 j) hCK hG (by omega) rfl dX0_goesWith_18 ?_
        refine lv_aload_n hx hb dX0_goesWith_19 rfl (lv_at hl 3 rfl) ?_
        refine lv_iload_n hx hb dX0_goesWith_20 rfl (lv_at hl 0 rfl) ?_
        refine s_calli (j_runV (n := 1) (C := RX6) (b := ad (3400 + k.toNat)) (rest := [.int (iI (F 46 j)), .int (iI x)]) (as := [.int (iI j)]) hx hb hml hown hts (csine l adK adV st D E A ad nv I F S Y L k j (by omega) (by omega) gs0 (by omega)) GB.blind (GB.at hK hG hE hS) (g_rec (r := 3400 + k.toNat) (ci := 6) hK hG (by have := (show (0 : Int) ≤ k ∧ k < 100 by omega); unfold cV; omega) rfl (cC_wv (by have := (show (0 : Int) ≤ k ∧ k < 100 by omega); omega))) q994 q831 q832 q83 q833 (by decide +kernel) ⟨rfl, rfl⟩ hR (by decide) ⟨Nat.zero_le _, Nat.zero_le _⟩ rfl hl.1 rfl (Nat.le_of_ble_eq_true rfl) dX0_goesWith_21) ?_
        refine r_imul hx hb dX0_goesWith_24 ?_
        refine r_iadd hx hb dX0_goesWith_25 ?_
        refine lv_istore_n (lv' := [(2, .int (iI (x + ((F 46 j) * (sineS (F 20 k) (F 21 k) j))))), (3, .int (iI j)), (0, .ref (ad 0)), (1, .ref (ad (3400 + k.toNat)))]) hx hb dX0_goesWith_26 rfl hl (by decide) rfl (fun ls hl => ?_)
        refine lv_iinc (v := iI (j + 1)) (lv' := [(3, .int (iI (j + 1))), (2, .int (iI (x + ((F 46 j) * (sineS (F 20 k) (F 21 k) j))))), (0, .ref (ad 0)), (1, .ref (ad (3400 + k.toNat)))]) hx hb dX0_goesWith_27 hl (k := 1) rfl (iI_add _ _) (by decide) rfl (fun ls hl => ?_)
        refine lv_goto (tgt := 4) hx hb dX0_goesWith_30 (by decide) ?_
        exact ih2 (x + ((F 46 j) * (sineS (F 20 k) (F 21 k) j))) (j + 1) (by omega) (by rw [ex, sm_s _ hj0]) (by omega) (by omega) _ (lv_sub hl [0, 1, 2, 3] rfl)
  exact loop4_1 ((I 45 - 0 : Int).toNat + 1) 0 0 (by omega) rfl (by omega) (by omega) _ (lv_sub hl [0, 1, 2, 3] rfl)
theorem dX0_goes_0 : decode cX0_goes 0 = .ok (.iload_n 1, 1) := by decide +kernel
theorem dX0_goes_1 : decode cX0_goes 1 = .ok (.i2l, 1) := by decide +kernel
theorem dX0_goes_2 : decode cX0_goes 2 = .ok (.lconst 0, 1) := by decide +kernel
theorem dX0_goes_3 : decode cX0_goes 3 = .ok (.aload_n 0, 1) := by decide +kernel
theorem dX0_goes_4 : decode cX0_goes 4 = .ok (.getfield 44, 3) := by decide +kernel
theorem dX0_goes_7 : decode cX0_goes 7 = .ok (.invokevirtual 125, 3) := by decide +kernel
theorem dX0_goes_10 : decode cX0_goes 10 = .ok (.iconst 1, 1) := by decide +kernel
theorem dX0_goes_11 : decode cX0_goes 11 = .ok (.isub, 1) := by decide +kernel
theorem dX0_goes_12 : decode cX0_goes 12 = .ok (.i2l, 1) := by decide +kernel
theorem dX0_goes_13 : decode cX0_goes 13 = .ok (.invokestatic 101, 3) := by decide +kernel
theorem dX0_goes_16 : decode cX0_goes 16 = .ok (.ifCond .eq 21, 3) := by decide +kernel
theorem dX0_goes_19 : decode cX0_goes 19 = .ok (.aload_n 0, 1) := by decide +kernel
theorem dX0_goes_20 : decode cX0_goes 20 = .ok (.aload_n 0, 1) := by decide +kernel
theorem dX0_goes_21 : decode cX0_goes 21 = .ok (.getfield 44, 3) := by decide +kernel
theorem dX0_goes_24 : decode cX0_goes 24 = .ok (.iload_n 1, 1) := by decide +kernel
theorem dX0_goes_25 : decode cX0_goes 25 = .ok (.invokevirtual 159, 3) := by decide +kernel
theorem dX0_goes_28 : decode cX0_goes 28 = .ok (.checkcast 248, 3) := by decide +kernel
theorem dX0_goes_31 : decode cX0_goes 31 = .ok (.invokevirtual 341, 3) := by decide +kernel
theorem dX0_goes_34 : decode cX0_goes 34 = .ok (.goto 5, 3) := by decide +kernel
theorem dX0_goes_37 : decode cX0_goes 37 = .ok (.ldc 206, 2) := by decide +kernel
theorem dX0_goes_39 : decode cX0_goes 39 = .ok (.ireturn, 1) := by decide +kernel
set_option maxHeartbeats 4000000 in
theorem cgoes (l : Launch) (adK adV st : Nat → Nat) (D : va_G) (E : Nat → ClassId) (A : Nat → Prop) (ad nv : Nat → Nat) (I : Nat → Int) (F : Nat → Int → Int) (S : Nat → Nat → Int) (Y : Nat → Int → Int) (L : Nat → Nat) (wv : Int) (r_w : R32 wv) (hn : cOK nv I L) (gs0 : gSea I F) (gr0 : gRec I F) : JM l yX0_goes cX0_goes 2 (some .int) (mrm 3) (CX adK adV st D E A ad nv I F S Y L) [.ref (ad 0), .int (iI wv)] (vp_Si (fun r => r = iI (if 0 ≤ wv ∧ wv < I 18 then gwS (I 45) (F 46) (F 20 wv) (F 21 wv) else -2147483648))) := by
  refine j_start (by decide) rfl (Nat.le_of_ble_eq_true rfl) ?_
  intro p e R s m args below meth c ls Q hR hQ hC hml hr hlk hB hl
  have hx := hC.1
  have hb := hC.2.1
  have hown := hC.2.2.1
  have hts := hC.2.2.2
  have hS : va_S A s.heap s.heap [] := va_S.rf
  have hK := hB.1
  have hG := hB.2.1
  have hE := hB.2.2
  have hCK : CK p m c _ s args _ D E := ⟨hx, hb, hown, hts, hK⟩
  have hl : lv_has ls 2 [(0, .ref (ad 0)), (1, .int (iI wv))] := hl
  obtain ⟨⟨n0, n1, n2, n3⟩, ⟨l0, l1, l2, l3⟩, c0, c1, c2, c3⟩ := id hn
  obtain ⟨i18, a0, a19, a20, a21⟩ := id gs0
  refine lv_iload_n hx hb dX0_goes_0 rfl (lv_at hl 1 rfl) ?_
  refine r_i2l hx hb dX0_goes_1 (by omega) ?_
  refine r_lconst hx hb 0 dX0_goes_2 (by decide) ?_
  refine lv_aload_n hx hb dX0_goes_3 rfl (lv_at hl 0 rfl) ?_
  refine cg_X0_44 hCK hG dX0_goes_4 ?_
  refine s_calli (j_runV (n := 0) (C := RJ2) (b := ad 14) (rest := [.long (iL 0), .long (iL wv)]) (as := []) hx hb hml hown hts (lsz_14 l adK adV st D E A ad nv I F S Y L) GB.blind (GB.at hK hG hE hS) (g_rec (r := 14) (ci := 10) hK hG (Or.inl (by decide)) rfl (cC_l (by decide))) q641 q614 q615 q71 q616 (by decide +kernel) ⟨rfl, rfl⟩ hR (by decide) ⟨Nat.zero_le _, Nat.zero_le _⟩ rfl hl.1 rfl (Nat.le_of_ble_eq_true rfl) dX0_goes_7) ?_
  refine r_iconst hx hb dX0_goes_10 ?_
  refine r_isub hx hb dX0_goes_11 ?_
  refine r_i2l hx hb dX0_goes_12 (by omega) ?_
  refine s_calli (j_runS (n := 3) (rest := []) (as := [.long (iL wv), .long (iL 0), .long (iL ((I 18) - 1))]) hx hb hml hown hts ((cin l wv 0 ((I 18) - 1) (by omega) (by decide) (by omega)).jm) (fun _ _ _ _ _ => trivial) (fun _ _ _ => trivial) q296 q297 q68 q298 (by decide +kernel) ⟨rfl, rfl⟩ hR (by decide) ⟨Nat.zero_le _, Nat.zero_le _⟩ rfl hl.1 rfl (Nat.le_of_ble_eq_true rfl) dX0_goes_13) ?_
  refine r_ifeqB (tgt := 37) hx hb dX0_goes_16 (by decide) (fun c1 => ?_) (fun c1 => ?_)
  · refine r_ldc hx hb (-2147483648) hown (hts _ q746) (by decide) dX0_goes_37 ?_
    exact j_iret hC hr hlk hQ dX0_goes_39 (by rw [if_neg (by omega)])
  · refine lv_aload_n hx hb dX0_goes_19 rfl (lv_at hl 0 rfl) ?_
    refine lv_aload_n hx hb dX0_goes_20 rfl (lv_at hl 0 rfl) ?_
    refine cg_X0_44 hCK hG dX0_goes_21 ?_
    refine lv_iload_n hx hb dX0_goes_24 rfl (lv_at hl 1 rfl) ?_
    refine j_callr (j_runV (n := 1) (C := RJ2) (b := ad 14) (rest := [.ref (ad 0)]) (as := [.int (iI wv)]) hx hb hml hown hts (lgt_14 l adK adV st D E A ad nv I F S Y L wv (by omega) (by omega) (by omega)) GB.blind (GB.at hK hG hE hS) (g_rec (r := 14) (ci := 10) hK hG (Or.inl (by decide)) rfl (cC_l (by decide))) q703 q620 q621 q71 q622 (by decide +kernel) ⟨rfl, rfl⟩ hR (by decide) ⟨Nat.zero_le _, Nat.zero_le _⟩ rfl hl.1 rfl (Nat.le_of_ble_eq_true rfl) dX0_goes_25) ?_
    refine c_cast (r := 3400 + wv.toNat) (ci := 6) hCK hG (by have := (show (0 : Int) ≤ wv ∧ wv < 100 by omega); unfold cV; omega) rfl (cC_wv (by have := (show (0 : Int) ≤ wv ∧ wv < 100 by omega); omega)) q801 dX0_goes_28 ?_
    refine s_calli (j_runV (n := 1) (C := RX0) (b := ad 0) (rest := []) (as := [.ref (ad (3400 + wv.toNat))]) hx hb hml hown hts (cgoesWith l adK adV st D E A ad nv I F S Y L wv (by omega) hn gs0 gr0) GB.blind (GB.at hK hG hE hS) (g_rec (r := 0) (ci := 0) hK hG (Or.inl (by decide)) rfl cC_0) q990 q992 qs33 q68 q993 (by decide +kernel) ⟨rfl, rfl⟩ hR (by decide) ⟨Nat.zero_le _, Nat.zero_le _⟩ rfl hl.1 rfl (Nat.le_of_ble_eq_true rfl) dX0_goes_31) ?_
    refine lv_goto (tgt := 39) hx hb dX0_goes_34 (by decide) ?_
    exact j_iret hC hr hlk hQ dX0_goes_39 (by rw [if_pos (by omega)])

theorem seen_o {f : Int → Int} {nm nw b k : Int} (h : (k = 0 ∧ b = -1) ∨ (1 ≤ k ∧ 0 < nm ∧ b = amxN f (k - 1).toNat)) (h0 : 0 ≤ k) (h1 : k ≤ nw) (hk : nw ≤ k) : b = if nw = 0 ∨ nm = 0 then -1 else amxN f (nw - 1).toNat := by
  rcases h with ⟨q1, q2⟩ | ⟨q1, q2, q3⟩
  · rw [if_pos (by omega)]
    exact q2
  · rw [if_neg (by omega), q3, show k = nw by omega]
theorem seen_n {f : Int → Int} {nm nw b k : Int} (h : (k = 0 ∧ b = -1) ∨ (1 ≤ k ∧ 0 < nm ∧ b = amxN f (k - 1).toNat)) (h0 : 0 ≤ k) (h1 : k ≤ nw) (hk : nm ≤ 0) (hm : 0 ≤ nm) : b = if nw = 0 ∨ nm = 0 then -1 else amxN f (nw - 1).toNat := by
  rcases h with ⟨q1, q2⟩ | ⟨q1, q2, q3⟩
  · rw [if_pos (by omega)]
    exact q2
  · omega
theorem seen_r {f : Int → Int} {nm b k : Int} (h : (k = 0 ∧ b = -1) ∨ (1 ≤ k ∧ 0 < nm ∧ b = amxN f (k - 1).toNat)) : -1 ≤ b ∧ b ≤ k := by
  rcases h with ⟨q1, q2⟩ | ⟨q1, q2, q3⟩
  · omega
  · have := amxN_bd f (k - 1).toNat
    omega
theorem seen_1 {f : Int → Int} {nm b k : Int} (h : (k = 0 ∧ b = -1) ∨ (1 ≤ k ∧ 0 < nm ∧ b = amxN f (k - 1).toNat)) (hm : 0 < nm) (hb : b = -1) : (k + 1 = 0 ∧ k = -1) ∨ (1 ≤ k + 1 ∧ 0 < nm ∧ k = amxN f (k + 1 - 1).toNat) := by
  rcases h with ⟨q1, q2⟩ | ⟨q1, q2, q3⟩
  · subst q1
    exact Or.inr ⟨by decide, hm, rfl⟩
  · have := (amxN_bd f (k - 1).toNat).1
    omega
theorem seen_b {f : Int → Int} {nm b k : Int} (h : (k = 0 ∧ b = -1) ∨ (1 ≤ k ∧ 0 < nm ∧ b = amxN f (k - 1).toNat)) (hb : b ≠ -1) : 0 ≤ b ∧ b < k := by
  rcases h with ⟨q1, q2⟩ | ⟨q1, q2, q3⟩
  · omega
  · have := amxN_bd f (k - 1).toNat
    omega
theorem seen_s {f : Int → Int} {nm b k : Int} (h : (k = 0 ∧ b = -1) ∨ (1 ≤ k ∧ 0 < nm ∧ b = amxN f (k - 1).toNat)) (hb : b ≠ -1) (hm : 0 < nm) (hc : ¬ absZ (f b) < absZ (f k)) : (k + 1 = 0 ∧ b = -1) ∨ (1 ≤ k + 1 ∧ 0 < nm ∧ b = amxN f (k + 1 - 1).toNat) := by
  rcases h with ⟨q1, q2⟩ | ⟨q1, q2, q3⟩
  · omega
  · refine Or.inr ⟨by omega, hm, ?_⟩
    rw [show k + 1 - 1 = k by omega, amxN_s f q1, ← q3, if_neg hc]
theorem seen_g {f : Int → Int} {nm b k : Int} (h : (k = 0 ∧ b = -1) ∨ (1 ≤ k ∧ 0 < nm ∧ b = amxN f (k - 1).toNat)) (hb : b ≠ -1) (hm : 0 < nm) (hc : absZ (f b) < absZ (f k)) : (k + 1 = 0 ∧ k = -1) ∨ (1 ≤ k + 1 ∧ 0 < nm ∧ k = amxN f (k + 1 - 1).toNat) := by
  rcases h with ⟨q1, q2⟩ | ⟨q1, q2, q3⟩
  · omega
  · refine Or.inr ⟨by omega, hm, ?_⟩
    rw [show k + 1 - 1 = k by omega, amxN_s f q1, ← q3, if_pos hc]
theorem dX0_seen_0 : decode cX0_seen 0 = .ok (.iconst (-1), 1) := by decide +kernel
theorem dX0_seen_1 : decode cX0_seen 1 = .ok (.istore_n 1, 1) := by decide +kernel
theorem dX0_seen_2 : decode cX0_seen 2 = .ok (.iconst 0, 1) := by decide +kernel
theorem dX0_seen_3 : decode cX0_seen 3 = .ok (.istore_n 2, 1) := by decide +kernel
theorem dX0_seen_4 : decode cX0_seen 4 = .ok (.iload_n 2, 1) := by decide +kernel
theorem dX0_seen_5 : decode cX0_seen 5 = .ok (.aload_n 0, 1) := by decide +kernel
theorem dX0_seen_6 : decode cX0_seen 6 = .ok (.getfield 44, 3) := by decide +kernel
theorem dX0_seen_9 : decode cX0_seen 9 = .ok (.invokevirtual 125, 3) := by decide +kernel
theorem dX0_seen_12 : decode cX0_seen 12 = .ok (.if_icmp .ge 62, 3) := by decide +kernel
theorem dX0_seen_15 : decode cX0_seen 15 = .ok (.aload_n 0, 1) := by decide +kernel
theorem dX0_seen_16 : decode cX0_seen 16 = .ok (.getfield 335, 3) := by decide +kernel
theorem dX0_seen_19 : decode cX0_seen 19 = .ok (.ifCond .le 55, 3) := by decide +kernel
theorem dX0_seen_22 : decode cX0_seen 22 = .ok (.iload_n 1, 1) := by decide +kernel
theorem dX0_seen_23 : decode cX0_seen 23 = .ok (.iconst (-1), 1) := by decide +kernel
theorem dX0_seen_24 : decode cX0_seen 24 = .ok (.if_icmp .eq 42, 3) := by decide +kernel
theorem dX0_seen_27 : decode cX0_seen 27 = .ok (.aload_n 0, 1) := by decide +kernel
theorem dX0_seen_28 : decode cX0_seen 28 = .ok (.aload_n 0, 1) := by decide +kernel
theorem dX0_seen_29 : decode cX0_seen 29 = .ok (.getfield 44, 3) := by decide +kernel
theorem dX0_seen_32 : decode cX0_seen 32 = .ok (.iload_n 2, 1) := by decide +kernel
theorem dX0_seen_33 : decode cX0_seen 33 = .ok (.invokevirtual 159, 3) := by decide +kernel
theorem dX0_seen_36 : decode cX0_seen 36 = .ok (.checkcast 248, 3) := by decide +kernel
theorem dX0_seen_39 : decode cX0_seen 39 = .ok (.invokevirtual 341, 3) := by decide +kernel
theorem dX0_seen_42 : decode cX0_seen 42 = .ok (.invokestatic 345, 3) := by decide +kernel
theorem dX0_seen_45 : decode cX0_seen 45 = .ok (.aload_n 0, 1) := by decide +kernel
theorem dX0_seen_46 : decode cX0_seen 46 = .ok (.aload_n 0, 1) := by decide +kernel
theorem dX0_seen_47 : decode cX0_seen 47 = .ok (.getfield 44, 3) := by decide +kernel
theorem dX0_seen_50 : decode cX0_seen 50 = .ok (.iload_n 1, 1) := by decide +kernel
theorem dX0_seen_51 : decode cX0_seen 51 = .ok (.invokevirtual 159, 3) := by decide +kernel
theorem dX0_seen_54 : decode cX0_seen 54 = .ok (.checkcast 248, 3) := by decide +kernel
theorem dX0_seen_57 : decode cX0_seen 57 = .ok (.invokevirtual 341, 3) := by decide +kernel
theorem dX0_seen_60 : decode cX0_seen 60 = .ok (.invokestatic 345, 3) := by decide +kernel
theorem dX0_seen_63 : decode cX0_seen 63 = .ok (.if_icmp .le 5, 3) := by decide +kernel
theorem dX0_seen_66 : decode cX0_seen 66 = .ok (.iload_n 2, 1) := by decide +kernel
theorem dX0_seen_67 : decode cX0_seen 67 = .ok (.istore_n 1, 1) := by decide +kernel
theorem dX0_seen_68 : decode cX0_seen 68 = .ok (.iinc 2 1, 3) := by decide +kernel
theorem dX0_seen_71 : decode cX0_seen 71 = .ok (.goto (-67), 3) := by decide +kernel
theorem dX0_seen_74 : decode cX0_seen 74 = .ok (.iload_n 1, 1) := by decide +kernel
theorem dX0_seen_75 : decode cX0_seen 75 = .ok (.ireturn, 1) := by decide +kernel
set_option maxHeartbeats 4000000 in
theorem cseen (l : Launch) (adK adV st : Nat → Nat) (D : va_G) (E : Nat → ClassId) (A : Nat → Prop) (ad nv : Nat → Nat) (I : Nat → Int) (F : Nat → Int → Int) (S : Nat → Nat → Int) (Y : Nat → Int → Int) (L : Nat → Nat) (hn : cOK nv I L) (gs0 : gSea I F) (gr0 : gRec I F) : JM l yX0_seen cX0_seen 3 (some .int) (mrm 3) (CX adK adV st D E A ad nv I F S Y L) [.ref (ad 0)] (vp_Si (fun r => r = iI (if I 18 = 0 ∨ I 45 = 0 then -1 else amxN (fun w => gwS (I 45) (F 46) (F 20 w) (F 21 w)) (I 18 - 1).toNat))) := by
  refine j_start (by decide) rfl (Nat.le_of_ble_eq_true rfl) ?_
  intro p e R s m args below meth c ls Q hR hQ hC hml hr hlk hB hl
  have hx := hC.1
  have hb := hC.2.1
  have hown := hC.2.2.1
  have hts := hC.2.2.2
  have hS : va_S A s.heap s.heap [] := va_S.rf
  have hK := hB.1
  have hG := hB.2.1
  have hE := hB.2.2
  have hCK : CK p m c _ s args _ D E := ⟨hx, hb, hown, hts, hK⟩
  have hl : lv_has ls 3 [(0, .ref (ad 0))] := hl
  obtain ⟨⟨n0, n1, n2, n3⟩, ⟨l0, l1, l2, l3⟩, c0, c1, c2, c3⟩ := id hn
  obtain ⟨i18, a0, a19, a20, a21⟩ := id gs0
  obtain ⟨i45, a46⟩ := id gr0
  have hgb : ∀ w, -5120000 ≤ gwS (I 45) (F 46) (F 20 w) (F 21 w) ∧ gwS (I 45) (F 46) (F 20 w) (F 21 w) ≤ 5120000 := fun w => gw_bd i45 a46
  have hab : ∀ w, absI (gwS (I 45) (F 46) (F 20 w) (F 21 w)) = absZ (gwS (I 45) (F 46) (F 20 w) (F 21 w)) := fun w => rfl
  refine r_iconst hx hb dX0_seen_0 ?_
  refine lv_istore_n (lv' := [(1, .int (iI (-1))), (0, .ref (ad 0))]) hx hb dX0_seen_1 rfl hl (by decide) rfl (fun ls hl => ?_)
  refine r_iconst hx hb dX0_seen_2 ?_
  refine lv_istore_n (lv' := [(2, .int (iI 0)), (1, .int (iI (-1))), (0, .ref (ad 0))]) hx hb dX0_seen_3 rfl hl (by decide) rfl (fun ls hl => ?_)
  have loop4_1 : ∀ (n : Nat) (b k : Int), I 18 - k < (n : Int) → ((k = 0 ∧ b = -1) ∨ (1 ≤ k ∧ 0 < I 45 ∧ b = amxN (fun w => gwS (I 45) (F 46) (F 20 w) (F 21 w)) (k - 1).toNat)) → 0 ≤ k → k ≤ I 18 → ∀ (ls : Array Slot), lv_has ls 3 [(2, .int (iI k)), (1, .int (iI b)), (0, .ref (ad 0))] → W p l e R s m args below meth c s.heap [] 0 0 Q (F0 m 4 ls []) := by
    intro n
    induction n with
    | zero => intro b k hn3 eb hk0 hk1; exfalso; omega
    | succ n ih2 =>
      intro b k hn3 eb hk0 hk1 ls hl
      refine lv_iload_n hx hb dX0_seen_4 rfl (lv_at hl 0 rfl) ?_
      refine lv_aload_n hx hb dX0_seen_5 rfl (lv_at hl 2 rfl) ?_
      refine cg_X0_44 hCK hG dX0_seen_6 ?_
      refine s_calli (j_runV (n := 0) (C := RJ2) (b := ad 14) (rest := [.int (iI k)]) (as := []) hx hb hml hown hts (lsz_14 l adK adV st D E A ad nv I F S Y L) GB.blind (GB.at hK hG hE hS) (g_rec (r := 14) (ci := 10) hK hG (Or.inl (by decide)) rfl (cC_l (by decide))) q641 q614 q615 q71 q616 (by decide +kernel) ⟨rfl, rfl⟩ hR (by decide) ⟨Nat.zero_le _, Nat.zero_le _⟩ rfl hl.1 rfl (Nat.le_of_ble_eq_true rfl) dX0_seen_9) ?_
      refine r_icmp_ge (tgt := 74) hx hb dX0_seen_12 (by decide) (by omega) (by omega) (fun c4 => ?_) (fun c4 => ?_)
      · refine lv_iload_n hx hb dX0_seen_74 rfl (lv_at hl 1 rfl) ?_
        exact j_iret hC hr hlk hQ dX0_seen_75 (seen_o eb hk0 hk1 (by omega))
      · refine lv_aload_n hx hb dX0_seen_15 rfl (lv_at hl 2 rfl) ?_
        refine cg_X0_335 (v := I 45) hCK hG rfl dX0_seen_16 ?_
        refine r_if_le (tgt := 74) hx hb dX0_seen_19 (by decide) (by omega) (fun c5 => ?_) (fun c5 => ?_)
        · refine lv_iload_n hx hb dX0_seen_74 rfl (lv_at hl 1 rfl) ?_
          exact j_iret hC hr hlk hQ dX0_seen_75 (seen_n eb hk0 hk1 (by omega) (by omega))
        · have hbr := seen_r eb
          refine lv_iload_n hx hb dX0_seen_22 rfl (lv_at hl 1 rfl) ?_
          refine r_iconst hx hb dX0_seen_23 ?_
          refine r_icmp_eq (tgt := 66) hx hb dX0_seen_24 (by decide) (by omega) (by decide) (fun c6 => ?_) (fun c6 => ?_)
          · refine lv_iload_n hx hb dX0_seen_66 rfl (lv_at hl 0 rfl) ?_
            refine lv_istore_n (lv' := [(1, .int (iI k)), (2, .int (iI k)), (0, .ref (ad 0))]) hx hb dX0_seen_67 rfl hl (by decide) rfl (fun ls hl => ?_)
            refine lv_iinc (v := iI (k + 1)) (lv' := [(2, .int (iI (k + 1))), (1, .int (iI k)), (0, .ref (ad 0))]) hx hb dX0_seen_68 hl (k := 1) rfl (iI_add _ _) (by decide) rfl (fun ls hl => ?_)
            refine lv_goto (tgt := 4) hx hb dX0_seen_71 (by decide) ?_
            exact ih2 k (k + 1) (by omega) (seen_1 eb (by omega) (by omega)) (by omega) (by omega) _ (lv_sub hl [0, 1, 2] rfl)
          · have hbb := seen_b eb (by omega)
            have hg1 := hgb k
            have hg2 := hgb b
            refine lv_aload_n hx hb dX0_seen_27 rfl (lv_at hl 2 rfl) ?_
            refine lv_aload_n hx hb dX0_seen_28 rfl (lv_at hl 2 rfl) ?_
            refine cg_X0_44 hCK hG dX0_seen_29 ?_
            refine lv_iload_n hx hb dX0_seen_32 rfl (lv_at hl 0 rfl) ?_
            refine j_callr (j_runV (n := 1) (C := RJ2) (b := ad 14) (rest := [.ref (ad 0)]) (as := [.int (iI k)]) hx hb hml hown hts (lgt_14 l adK adV st D E A ad nv I F S Y L k (by omega) (by omega) (by omega)) GB.blind (GB.at hK hG hE hS) (g_rec (r := 14) (ci := 10) hK hG (Or.inl (by decide)) rfl (cC_l (by decide))) q703 q620 q621 q71 q622 (by decide +kernel) ⟨rfl, rfl⟩ hR (by decide) ⟨Nat.zero_le _, Nat.zero_le _⟩ rfl hl.1 rfl (Nat.le_of_ble_eq_true rfl) dX0_seen_33) ?_
            refine c_cast (r := 3400 + k.toNat) (ci := 6) hCK hG (by have := (show (0 : Int) ≤ k ∧ k < 100 by omega); unfold cV; omega) rfl (cC_wv (by have := (show (0 : Int) ≤ k ∧ k < 100 by omega); omega)) q801 dX0_seen_36 ?_
            refine s_calli (j_runV (n := 1) (C := RX0) (b := ad 0) (rest := []) (as := [.ref (ad (3400 + k.toNat))]) hx hb hml hown hts (cgoesWith l adK adV st D E A ad nv I F S Y L k (by omega) hn gs0 gr0) GB.blind (GB.at hK hG hE hS) (g_rec (r := 0) (ci := 0) hK hG (Or.inl (by decide)) rfl cC_0) q990 q992 qs33 q68 q993 (by decide +kernel) ⟨rfl, rfl⟩ hR (by decide) ⟨Nat.zero_le _, Nat.zero_le _⟩ rfl hl.1 rfl (Nat.le_of_ble_eq_true rfl) dX0_seen_39) ?_
            refine s_calli (j_runS (n := 1) (rest := []) (as := [.int (iI (gwS (I 45) (F 46) (F 20 k) (F 21 k)))]) hx hb hml hown hts ((met_abs l (gwS (I 45) (F 46) (F 20 k) (F 21 k)) (by omega)).jm) (fun _ _ _ _ _ => trivial) (fun _ _ _ => trivial) q1003 q910 q76 q911 (by decide +kernel) ⟨rfl, rfl⟩ hR (by decide) ⟨Nat.zero_le _, Nat.zero_le _⟩ rfl hl.1 rfl (Nat.le_of_ble_eq_true rfl) dX0_seen_42) ?_
            refine lv_aload_n hx hb dX0_seen_45 rfl (lv_at hl 2 rfl) ?_
            refine lv_aload_n hx hb dX0_seen_46 rfl (lv_at hl 2 rfl) ?_
            refine cg_X0_44 hCK hG dX0_seen_47 ?_
            refine lv_iload_n hx hb dX0_seen_50 rfl (lv_at hl 1 rfl) ?_
            refine j_callr (j_runV (n := 1) (C := RJ2) (b := ad 14) (rest := [.ref (ad 0), .int (iI (absI (gwS (I 45) (F 46) (F 20 k) (F 21 k))))]) (as := [.int (iI b)]) hx hb hml hown hts (lgt_14 l adK adV st D E A ad nv I F S Y L b (by omega) (by omega) (by omega)) GB.blind (GB.at hK hG hE hS) (g_rec (r := 14) (ci := 10) hK hG (Or.inl (by decide)) rfl (cC_l (by decide))) q703 q620 q621 q71 q622 (by decide +kernel) ⟨rfl, rfl⟩ hR (by decide) ⟨Nat.zero_le _, Nat.zero_le _⟩ rfl hl.1 rfl (Nat.le_of_ble_eq_true rfl) dX0_seen_51) ?_
            refine c_cast (r := 3400 + b.toNat) (ci := 6) hCK hG (by have := (show (0 : Int) ≤ b ∧ b < 100 by omega); unfold cV; omega) rfl (cC_wv (by have := (show (0 : Int) ≤ b ∧ b < 100 by omega); omega)) q801 dX0_seen_54 ?_
            refine s_calli (j_runV (n := 1) (C := RX0) (b := ad 0) (rest := [.int (iI (absI (gwS (I 45) (F 46) (F 20 k) (F 21 k))))]) (as := [.ref (ad (3400 + b.toNat))]) hx hb hml hown hts (cgoesWith l adK adV st D E A ad nv I F S Y L b (by omega) hn gs0 gr0) GB.blind (GB.at hK hG hE hS) (g_rec (r := 0) (ci := 0) hK hG (Or.inl (by decide)) rfl cC_0) q990 q992 qs33 q68 q993 (by decide +kernel) ⟨rfl, rfl⟩ hR (by decide) ⟨Nat.zero_le _, Nat.zero_le _⟩ rfl hl.1 rfl (Nat.le_of_ble_eq_true rfl) dX0_seen_57) ?_
            refine s_calli (j_runS (n := 1) (rest := [.int (iI (absI (gwS (I 45) (F 46) (F 20 k) (F 21 k))))]) (as := [.int (iI (gwS (I 45) (F 46) (F 20 b) (F 21 b)))]) hx hb hml hown hts ((met_abs l (gwS (I 45) (F 46) (F 20 b) (F 21 b)) (by omega)).jm) (fun _ _ _ _ _ => trivial) (fun _ _ _ => trivial) q1003 q910 q76 q911 (by decide +kernel) ⟨rfl, rfl⟩ hR (by decide) ⟨Nat.zero_le _, Nat.zero_le _⟩ rfl hl.1 rfl (Nat.le_of_ble_eq_true rfl) dX0_seen_60) ?_
            refine r_icmp_le (tgt := 68) hx hb dX0_seen_63 (by decide) (by unfold absI; split <;> omega) (by unfold absI; split <;> omega) (fun c7 => ?_) (fun c7 => ?_)
            · refine lv_iinc (v := iI (k + 1)) (lv' := [(2, .int (iI (k + 1))), (1, .int (iI b)), (0, .ref (ad 0))]) hx hb dX0_seen_68 hl (k := 0) rfl (iI_add _ _) (by decide) rfl (fun ls hl => ?_)
              refine lv_goto (tgt := 4) hx hb dX0_seen_71 (by decide) ?_
              exact ih2 b (k + 1) (by omega) (seen_s eb (by omega) (by omega) (fun q => by have := hab k; have := hab b; omega)) (by omega) (by omega) _ (lv_sub hl [0, 1, 2] rfl)
            · refine lv_iload_n hx hb dX0_seen_66 rfl (lv_at hl 0 rfl) ?_
              refine lv_istore_n (lv' := [(1, .int (iI k)), (2, .int (iI k)), (0, .ref (ad 0))]) hx hb dX0_seen_67 rfl hl (by decide) rfl (fun ls hl => ?_)
              refine lv_iinc (v := iI (k + 1)) (lv' := [(2, .int (iI (k + 1))), (1, .int (iI k)), (0, .ref (ad 0))]) hx hb dX0_seen_68 hl (k := 1) rfl (iI_add _ _) (by decide) rfl (fun ls hl => ?_)
              refine lv_goto (tgt := 4) hx hb dX0_seen_71 (by decide) ?_
              exact ih2 k (k + 1) (by omega) (seen_g eb (by omega) (by omega) (by have := hab k; have := hab b; omega)) (by omega) (by omega) _ (lv_sub hl [0, 1, 2] rfl)
  exact loop4_1 ((I 18 - 0 : Int).toNat + 1) (-1) 0 (by omega) (Or.inl ⟨rfl, rfl⟩) (by omega) (by omega) _ (lv_sub hl [0, 1, 2] rfl)

theorem rd_1 {x t n nw : Int} {f per pha : Int → Int} (ex : x = sm (fun t => if 0 < t ∧ 0 ≤ f t ∧ f (t - 1) < 0 then 1 else 0) t) (h : n = t ∨ (t = 1 ∧ n = 0)) : x = readS 1 n f nw per pha := by
  show x = sm (fun t => if 0 < t ∧ 0 ≤ f t ∧ f (t - 1) < 0 then 1 else 0) n
  rcases h with rfl | ⟨rfl, rfl⟩
  · exact ex
  · rw [ex, show (1 : Int) = 0 + 1 from rfl, sm_s _ (by decide), if_neg (by omega)]
    rfl
theorem dX0_read_0 : decode cX0_read 0 = .ok (.iconst 0, 1) := by decide +kernel
theorem dX0_read_1 : decode cX0_read 1 = .ok (.istore_n 2, 1) := by decide +kernel
theorem dX0_read_2 : decode cX0_read 2 = .ok (.iload_n 1, 1) := by decide +kernel
theorem dX0_read_3 : decode cX0_read 3 = .ok (.tableswitch 146 0 3 #[29, 34, 80, 114], 29) := by decide +kernel
theorem dX0_read_32 : decode cX0_read 32 = .ok (.aload_n 0, 1) := by decide +kernel
theorem dX0_read_33 : decode cX0_read 33 = .ok (.invokevirtual 348, 3) := by decide +kernel
theorem dX0_read_36 : decode cX0_read 36 = .ok (.ireturn, 1) := by decide +kernel
theorem dX0_read_37 : decode cX0_read 37 = .ok (.iconst 1, 1) := by decide +kernel
theorem dX0_read_38 : decode cX0_read 38 = .ok (.istore_n 3, 1) := by decide +kernel
theorem dX0_read_39 : decode cX0_read 39 = .ok (.iload_n 3, 1) := by decide +kernel
theorem dX0_read_40 : decode cX0_read 40 = .ok (.aload_n 0, 1) := by decide +kernel
theorem dX0_read_41 : decode cX0_read 41 = .ok (.getfield 335, 3) := by decide +kernel
theorem dX0_read_44 : decode cX0_read 44 = .ok (.if_icmp .ge 37, 3) := by decide +kernel
theorem dX0_read_47 : decode cX0_read 47 = .ok (.iload_n 2, 1) := by decide +kernel
theorem dX0_read_48 : decode cX0_read 48 = .ok (.aload_n 0, 1) := by decide +kernel
theorem dX0_read_49 : decode cX0_read 49 = .ok (.getfield 92, 3) := by decide +kernel
theorem dX0_read_52 : decode cX0_read 52 = .ok (.iload_n 3, 1) := by decide +kernel
theorem dX0_read_53 : decode cX0_read 53 = .ok (.iaload, 1) := by decide +kernel
theorem dX0_read_54 : decode cX0_read 54 = .ok (.ifCond .lt 18, 3) := by decide +kernel
theorem dX0_read_57 : decode cX0_read 57 = .ok (.aload_n 0, 1) := by decide +kernel
theorem dX0_read_58 : decode cX0_read 58 = .ok (.getfield 92, 3) := by decide +kernel
theorem dX0_read_61 : decode cX0_read 61 = .ok (.iload_n 3, 1) := by decide +kernel
theorem dX0_read_62 : decode cX0_read 62 = .ok (.iconst 1, 1) := by decide +kernel
theorem dX0_read_63 : decode cX0_read 63 = .ok (.isub, 1) := by decide +kernel
theorem dX0_read_64 : decode cX0_read 64 = .ok (.iaload, 1) := by decide +kernel
theorem dX0_read_65 : decode cX0_read 65 = .ok (.ifCond .ge 7, 3) := by decide +kernel
theorem dX0_read_68 : decode cX0_read 68 = .ok (.iconst 1, 1) := by decide +kernel
theorem dX0_read_69 : decode cX0_read 69 = .ok (.goto 4, 3) := by decide +kernel
theorem dX0_read_72 : decode cX0_read 72 = .ok (.iconst 0, 1) := by decide +kernel
theorem dX0_read_73 : decode cX0_read 73 = .ok (.iadd, 1) := by decide +kernel
theorem dX0_read_74 : decode cX0_read 74 = .ok (.istore_n 2, 1) := by decide +kernel
theorem dX0_read_75 : decode cX0_read 75 = .ok (.iinc 3 1, 3) := by decide +kernel
theorem dX0_read_78 : decode cX0_read 78 = .ok (.goto (-39), 3) := by decide +kernel
theorem dX0_read_81 : decode cX0_read 81 = .ok (.iload_n 2, 1) := by decide +kernel
theorem dX0_read_82 : decode cX0_read 82 = .ok (.ireturn, 1) := by decide +kernel
theorem dX0_read_83 : decode cX0_read 83 = .ok (.iconst 0, 1) := by decide +kernel
theorem dX0_read_84 : decode cX0_read 84 = .ok (.istore_n 3, 1) := by decide +kernel
theorem dX0_read_85 : decode cX0_read 85 = .ok (.iload_n 3, 1) := by decide +kernel
theorem dX0_read_86 : decode cX0_read 86 = .ok (.aload_n 0, 1) := by decide +kernel
theorem dX0_read_87 : decode cX0_read 87 = .ok (.getfield 335, 3) := by decide +kernel
theorem dX0_read_90 : decode cX0_read 90 = .ok (.if_icmp .ge 25, 3) := by decide +kernel
theorem dX0_read_93 : decode cX0_read 93 = .ok (.iload_n 2, 1) := by decide +kernel
theorem dX0_read_94 : decode cX0_read 94 = .ok (.aload_n 0, 1) := by decide +kernel
theorem dX0_read_95 : decode cX0_read 95 = .ok (.getfield 92, 3) := by decide +kernel
theorem dX0_read_98 : decode cX0_read 98 = .ok (.iload_n 3, 1) := by decide +kernel
theorem dX0_read_99 : decode cX0_read 99 = .ok (.iaload, 1) := by decide +kernel
theorem dX0_read_100 : decode cX0_read 100 = .ok (.aload_n 0, 1) := by decide +kernel
theorem dX0_read_101 : decode cX0_read 101 = .ok (.getfield 92, 3) := by decide +kernel
theorem dX0_read_104 : decode cX0_read 104 = .ok (.iload_n 3, 1) := by decide +kernel
theorem dX0_read_105 : decode cX0_read 105 = .ok (.iaload, 1) := by decide +kernel
theorem dX0_read_106 : decode cX0_read 106 = .ok (.imul, 1) := by decide +kernel
theorem dX0_read_107 : decode cX0_read 107 = .ok (.iadd, 1) := by decide +kernel
theorem dX0_read_108 : decode cX0_read 108 = .ok (.istore_n 2, 1) := by decide +kernel
theorem dX0_read_109 : decode cX0_read 109 = .ok (.iinc 3 1, 3) := by decide +kernel
theorem dX0_read_112 : decode cX0_read 112 = .ok (.goto (-27), 3) := by decide +kernel
theorem dX0_read_115 : decode cX0_read 115 = .ok (.iload_n 2, 1) := by decide +kernel
theorem dX0_read_116 : decode cX0_read 116 = .ok (.ireturn, 1) := by decide +kernel
theorem dX0_read_117 : decode cX0_read 117 = .ok (.iconst 0, 1) := by decide +kernel
theorem dX0_read_118 : decode cX0_read 118 = .ok (.istore_n 3, 1) := by decide +kernel
theorem dX0_read_119 : decode cX0_read 119 = .ok (.iload_n 3, 1) := by decide +kernel
theorem dX0_read_120 : decode cX0_read 120 = .ok (.aload_n 0, 1) := by decide +kernel
theorem dX0_read_121 : decode cX0_read 121 = .ok (.getfield 335, 3) := by decide +kernel
theorem dX0_read_124 : decode cX0_read 124 = .ok (.if_icmp .ge 23, 3) := by decide +kernel
theorem dX0_read_127 : decode cX0_read 127 = .ok (.iload_n 2, 1) := by decide +kernel
theorem dX0_read_128 : decode cX0_read 128 = .ok (.aload_n 0, 1) := by decide +kernel
theorem dX0_read_129 : decode cX0_read 129 = .ok (.getfield 92, 3) := by decide +kernel
theorem dX0_read_132 : decode cX0_read 132 = .ok (.iload_n 3, 1) := by decide +kernel
theorem dX0_read_133 : decode cX0_read 133 = .ok (.iaload, 1) := by decide +kernel
theorem dX0_read_134 : decode cX0_read 134 = .ok (.invokestatic 345, 3) := by decide +kernel
theorem dX0_read_137 : decode cX0_read 137 = .ok (.invokestatic 327, 3) := by decide +kernel
theorem dX0_read_140 : decode cX0_read 140 = .ok (.istore_n 2, 1) := by decide +kernel
theorem dX0_read_141 : decode cX0_read 141 = .ok (.iinc 3 1, 3) := by decide +kernel
theorem dX0_read_144 : decode cX0_read 144 = .ok (.goto (-25), 3) := by decide +kernel
theorem dX0_read_147 : decode cX0_read 147 = .ok (.iload_n 2, 1) := by decide +kernel
theorem dX0_read_148 : decode cX0_read 148 = .ok (.ireturn, 1) := by decide +kernel
theorem dX0_read_149 : decode cX0_read 149 = .ok (.ldc 206, 2) := by decide +kernel
theorem dX0_read_151 : decode cX0_read 151 = .ok (.ireturn, 1) := by decide +kernel
set_option maxHeartbeats 4000000 in
theorem cread (l : Launch) (adK adV st : Nat → Nat) (D : va_G) (E : Nat → ClassId) (A : Nat → Prop) (ad nv : Nat → Nat) (I : Nat → Int) (F : Nat → Int → Int) (S : Nat → Nat → Int) (Y : Nat → Int → Int) (L : Nat → Nat) (wh : Int) (r_w : R32 wh) (hn : cOK nv I L) (gs0 : gSea I F) (gr0 : gRec I F) : JM l yX0_read cX0_read 4 (some .int) (mrm 4) (CX adK adV st D E A ad nv I F S Y L) [.ref (ad 0), .int (iI wh)] (vp_Si (fun r => r = iI (readS wh (I 45) (F 46) (I 18) (F 20) (F 21)))) := by
  refine j_start (by decide) rfl (Nat.le_of_ble_eq_true rfl) ?_
  intro p e R s m args below meth c ls Q hR hQ hC hml hr hlk hB hl
  have hx := hC.1
  have hb := hC.2.1
  have hown := hC.2.2.1
  have hts := hC.2.2.2
  have hS : va_S A s.heap s.heap [] := va_S.rf
  have hK := hB.1
  have hG := hB.2.1
  have hE := hB.2.2
  have hCK : CK p m c _ s args _ D E := ⟨hx, hb, hown, hts, hK⟩
  have hl : lv_has ls 4 [(0, .ref (ad 0)), (1, .int (iI wh))] := hl
  obtain ⟨i45, a46⟩ := id gr0
  refine r_iconst hx hb dX0_read_0 ?_
  refine lv_istore_n (lv' := [(2, .int (iI 0)), (0, .ref (ad 0)), (1, .int (iI wh))]) hx hb dX0_read_1 rfl hl (by decide) rfl (fun ls hl => ?_)
  refine lv_iload_n hx hb dX0_read_2 rfl (lv_at hl 2 rfl) ?_
  rcases (show ((wh) < 0 ∨ 3 < (wh)) ∨ (wh) = 0 ∨ (wh) = 1 ∨ (wh) = 2 ∨ (wh) = 3 by omega) with hsw | rfl | rfl | rfl | rfl
  · refine lv_tableOut (tgt := 149) hx hb dX0_read_3 (by rw [iI_toInt (by omega)]; exact hsw) (by decide) ?_
    refine r_ldc hx hb (-2147483648) hown (hts _ q746) (by decide) dX0_read_149 ?_
    exact j_iret hC hr hlk hQ dX0_read_151 (by unfold readS; rw [if_neg (by omega), if_neg (by omega)])
  · refine lv_tableIn (tgt := 32) (off := 29) hx hb dX0_read_3 (by decide) (by decide) (by decide) (by decide) ?_
    refine lv_aload_n hx hb dX0_read_32 rfl (lv_at hl 1 rfl) ?_
    refine s_calli (j_runV (n := 0) (C := RX0) (b := ad 0) (rest := []) (as := []) hx hb hml hown hts (cseen l adK adV st D E A ad nv I F S Y L hn gs0 gr0) GB.blind (GB.at hK hG hE hS) (g_rec (r := 0) (ci := 0) hK hG (Or.inl (by decide)) rfl cC_0) q999 q1001 qs34 q68 q1002 (by decide +kernel) ⟨rfl, rfl⟩ hR (by decide) ⟨Nat.zero_le _, Nat.zero_le _⟩ rfl hl.1 rfl (Nat.le_of_ble_eq_true rfl) dX0_read_33) ?_
    exact j_iret hC hr hlk hQ dX0_read_36 (rfl)
  · refine lv_tableIn (tgt := 37) (off := 34) hx hb dX0_read_3 (by decide) (by decide) (by decide) (by decide) ?_
    refine r_iconst hx hb dX0_read_37 ?_
    refine lv_istore_n (lv' := [(3, .int (iI 1)), (2, .int (iI 0)), (0, .ref (ad 0)), (1, .int (iI 1))]) hx hb dX0_read_38 rfl hl (by decide) rfl (fun ls hl => ?_)
    have loop39_1 : ∀ (n : Nat) (x t : Int), I 45 + 1 - t < (n : Int) → (x = sm (fun t => if 0 < t ∧ 0 ≤ F 46 t ∧ F 46 (t - 1) < 0 then 1 else 0) t) → 0 ≤ t → 1 ≤ t → t ≤ I 45 ∨ t = 1 → ∀ (ls : Array Slot), lv_has ls 4 [(3, .int (iI t)), (2, .int (iI x)), (0, .ref (ad 0)), (1, .int (iI 1))] → W p l e R s m args below meth c s.heap [] 0 0 Q (F0 m 39 ls []) := by
      intro n
      induction n with
      | zero => intro x t hn3 ex ht0 ht1 ht2; exfalso; omega
      | succ n ih2 =>
        intro x t hn3 ex ht0 ht1 ht2 ls hl
        refine lv_iload_n hx hb dX0_read_39 rfl (lv_at hl 0 rfl) ?_
        refine lv_aload_n hx hb dX0_read_40 rfl (lv_at hl 2 rfl) ?_
        refine cg_X0_335 (v := I 45) hCK hG rfl dX0_read_41 ?_
        refine r_icmp_ge (tgt := 81) hx hb dX0_read_44 (by decide) (by omega) (by omega) (fun c4 => ?_) (fun c4 => ?_)
        · refine lv_iload_n hx hb dX0_read_81 rfl (lv_at hl 1 rfl) ?_
          exact j_iret hC hr hlk hQ dX0_read_82 (rd_1 ex (by omega))
        · have b1 := a46 t (by omega) (by omega)
          have b2 := a46 (t - 1) (by omega) (by omega)
          refine lv_iload_n hx hb dX0_read_47 rfl (lv_at hl 1 rfl) ?_
          refine lv_aload_n hx hb dX0_read_48 rfl (lv_at hl 2 rfl) ?_
          refine cg_X0_92 hCK hG dX0_read_49 ?_
          refine lv_iload_n hx hb dX0_read_52 rfl (lv_at hl 0 rfl) ?_
          refine cl_8 (v := F 46 t) hCK hG (by omega) rfl dX0_read_53 ?_
          have jn5 : W p l e R s m args below meth c s.heap [] 0 0 Q (F0 m 73 ls [.int (iI (if 0 < t ∧ 0 ≤ F 46 t ∧ F 46 (t - 1) < 0 then 1 else 0)), .int (iI x)]) := by
            refine r_iadd hx hb dX0_read_73 ?_
            refine lv_istore_n (lv' := [(2, .int (iI (x + (if 0 < t ∧ 0 ≤ F 46 t ∧ F 46 (t - 1) < 0 then 1 else 0)))), (3, .int (iI t)), (0, .ref (ad 0)), (1, .int (iI 1))]) hx hb dX0_read_74 rfl hl (by decide) rfl (fun ls hl => ?_)
            refine lv_iinc (v := iI (t + 1)) (lv' := [(3, .int (iI (t + 1))), (2, .int (iI (x + (if 0 < t ∧ 0 ≤ F 46 t ∧ F 46 (t - 1) < 0 then 1 else 0)))), (0, .ref (ad 0)), (1, .int (iI 1))]) hx hb dX0_read_75 hl (k := 1) rfl (iI_add _ _) (by decide) rfl (fun ls hl => ?_)
            refine lv_goto (tgt := 39) hx hb dX0_read_78 (by decide) ?_
            exact ih2 (x + (if 0 < t ∧ 0 ≤ F 46 t ∧ F 46 (t - 1) < 0 then 1 else 0)) (t + 1) (by omega) (by rw [ex, sm_s _ ht0]) (by omega) (by omega) (by omega) _ (lv_sub hl [0, 1, 2, 3] rfl)
          refine r_if_lt (tgt := 72) hx hb dX0_read_54 (by decide) (by omega) (fun c6 => ?_) (fun c6 => ?_)
          · refine r_iconst hx hb dX0_read_72 ?_
            rw [if_neg (by omega)] at jn5
            exact jn5
          · refine lv_aload_n hx hb dX0_read_57 rfl (lv_at hl 2 rfl) ?_
            refine cg_X0_92 hCK hG dX0_read_58 ?_
            refine lv_iload_n hx hb dX0_read_61 rfl (lv_at hl 0 rfl) ?_
            refine r_iconst hx hb dX0_read_62 ?_
            refine r_isub hx hb dX0_read_63 ?_
            refine cl_8 (v := F 46 (t - 1)) hCK hG (by omega) rfl dX0_read_64 ?_
            refine r_if_ge (tgt := 72) hx hb dX0_read_65 (by decide) (by omega) (fun c7 => ?_) (fun c7 => ?_)
            · refine r_iconst hx hb dX0_read_72 ?_
              rw [if_neg (by omega)] at jn5
              exact jn5
            · refine r_iconst hx hb dX0_read_68 ?_
              refine lv_goto (tgt := 73) hx hb dX0_read_69 (by decide) ?_
              rw [if_pos (by omega)] at jn5
              exact jn5
    exact loop39_1 ((I 45 + 1 - 1 : Int).toNat + 1) 0 1 (by omega) rfl (by omega) (by omega) (by omega) _ (lv_sub hl [0, 1, 2, 3] rfl)
  · refine lv_tableIn (tgt := 83) (off := 80) hx hb dX0_read_3 (by decide) (by decide) (by decide) (by decide) ?_
    refine r_iconst hx hb dX0_read_83 ?_
    refine lv_istore_n (lv' := [(3, .int (iI 0)), (2, .int (iI 0)), (0, .ref (ad 0)), (1, .int (iI 2))]) hx hb dX0_read_84 rfl hl (by decide) rfl (fun ls hl => ?_)
    have loop85_8 : ∀ (n : Nat) (x t : Int), I 45 + 1 - t < (n : Int) → x = sm (fun t => F 46 t * F 46 t) t → 0 ≤ t → t ≤ I 45 → ∀ (ls : Array Slot), lv_has ls 4 [(3, .int (iI t)), (2, .int (iI x)), (0, .ref (ad 0)), (1, .int (iI 2))] → W p l e R s m args below meth c s.heap [] 0 0 Q (F0 m 85 ls []) := by
      intro n
      induction n with
      | zero => intro x t hn10 ex ht0 ht1; exfalso; omega
      | succ n ih9 =>
        intro x t hn10 ex ht0 ht1 ls hl
        refine lv_iload_n hx hb dX0_read_85 rfl (lv_at hl 0 rfl) ?_
        refine lv_aload_n hx hb dX0_read_86 rfl (lv_at hl 2 rfl) ?_
        refine cg_X0_335 (v := I 45) hCK hG rfl dX0_read_87 ?_
        refine r_icmp_ge (tgt := 115) hx hb dX0_read_90 (by decide) (by omega) (by omega) (fun c11 => ?_) (fun c11 => ?_)
        · refine lv_iload_n hx hb dX0_read_115 rfl (lv_at hl 1 rfl) ?_
          exact j_iret hC hr hlk hQ dX0_read_116 (by rw [ex, show t = I 45 by omega]; rfl)
        · refine lv_iload_n hx hb dX0_read_93 rfl (lv_at hl 1 rfl) ?_
          refine lv_aload_n hx hb dX0_read_94 rfl (lv_at hl 2 rfl) ?_
          refine cg_X0_92 hCK hG dX0_read_95 ?_
          refine lv_iload_n hx hb dX0_read_98 rfl (lv_at hl 0 rfl) ?_
          refine cl_8 (v := F 46 t) hCK hG (by omega) rfl dX0_read_99 ?_
          refine lv_aload_n hx hb dX0_read_100 rfl (lv_at hl 2 rfl) ?_
          refine cg_X0_92 hCK hG dX0_read_101 ?_
          refine lv_iload_n hx hb dX0_read_104 rfl (lv_at hl 0 rfl) ?_
          refine cl_8 (v := F 46 t) hCK hG (by omega) rfl dX0_read_105 ?_
          refine r_imul hx hb dX0_read_106 ?_
          refine r_iadd hx hb dX0_read_107 ?_
          refine lv_istore_n (lv' := [(2, .int (iI (x + ((F 46 t) * (F 46 t))))), (3, .int (iI t)), (0, .ref (ad 0)), (1, .int (iI 2))]) hx hb dX0_read_108 rfl hl (by decide) rfl (fun ls hl => ?_)
          refine lv_iinc (v := iI (t + 1)) (lv' := [(3, .int (iI (t + 1))), (2, .int (iI (x + ((F 46 t) * (F 46 t))))), (0, .ref (ad 0)), (1, .int (iI 2))]) hx hb dX0_read_109 hl (k := 1) rfl (iI_add _ _) (by decide) rfl (fun ls hl => ?_)
          refine lv_goto (tgt := 85) hx hb dX0_read_112 (by decide) ?_
          exact ih9 (x + ((F 46 t) * (F 46 t))) (t + 1) (by omega) (by rw [ex, sm_s _ ht0]) (by omega) (by omega) _ (lv_sub hl [0, 1, 2, 3] rfl)
    exact loop85_8 ((I 45 + 1 - 0 : Int).toNat + 1) 0 0 (by omega) rfl (by omega) (by omega) _ (lv_sub hl [0, 1, 2, 3] rfl)
  · refine lv_tableIn (tgt := 117) (off := 114) hx hb dX0_read_3 (by decide) (by decide) (by decide) (by decide) ?_
    refine r_iconst hx hb dX0_read_117 ?_
    refine lv_istore_n (lv' := [(3, .int (iI 0)), (2, .int (iI 0)), (0, .ref (ad 0)), (1, .int (iI 3))]) hx hb dX0_read_118 rfl hl (by decide) rfl (fun ls hl => ?_)
    have loop119_12 : ∀ (n : Nat) (x t : Int), I 45 + 1 - t < (n : Int) → x = mxS (F 46) t → 0 ≤ t → t ≤ I 45 → ∀ (ls : Array Slot), lv_has ls 4 [(3, .int (iI t)), (2, .int (iI x)), (0, .ref (ad 0)), (1, .int (iI 3))] → W p l e R s m args below meth c s.heap [] 0 0 Q (F0 m 119 ls []) := by
      intro n
      induction n with
      | zero => intro x t hn14 ex ht0 ht1; exfalso; omega
      | succ n ih13 =>
        intro x t hn14 ex ht0 ht1 ls hl
        refine lv_iload_n hx hb dX0_read_119 rfl (lv_at hl 0 rfl) ?_
        refine lv_aload_n hx hb dX0_read_120 rfl (lv_at hl 2 rfl) ?_
        refine cg_X0_335 (v := I 45) hCK hG rfl dX0_read_121 ?_
        refine r_icmp_ge (tgt := 147) hx hb dX0_read_124 (by decide) (by omega) (by omega) (fun c15 => ?_) (fun c15 => ?_)
        · refine lv_iload_n hx hb dX0_read_147 rfl (lv_at hl 1 rfl) ?_
          exact j_iret hC hr hlk hQ dX0_read_148 (by rw [ex, show t = I 45 by omega]; rfl)
        · have b1 := a46 t (by omega) (by omega)
          have b2 := mxS_bd (f := F 46) (n := t) (by omega) a46
          rw [← ex] at b2
          refine lv_iload_n hx hb dX0_read_127 rfl (lv_at hl 1 rfl) ?_
          refine lv_aload_n hx hb dX0_read_128 rfl (lv_at hl 2 rfl) ?_
          refine cg_X0_92 hCK hG dX0_read_129 ?_
          refine lv_iload_n hx hb dX0_read_132 rfl (lv_at hl 0 rfl) ?_
          refine cl_8 (v := F 46 t) hCK hG (by omega) rfl dX0_read_133 ?_
          refine s_calli (j_runS (n := 1) (rest := [.int (iI x)]) (as := [.int (iI (F 46 t))]) hx hb hml hown hts ((met_abs l (F 46 t) (by omega)).jm) (fun _ _ _ _ _ => trivial) (fun _ _ _ => trivial) q1003 q910 q76 q911 (by decide +kernel) ⟨rfl, rfl⟩ hR (by decide) ⟨Nat.zero_le _, Nat.zero_le _⟩ rfl hl.1 rfl (Nat.le_of_ble_eq_true rfl) dX0_read_134) ?_
          refine s_calli (j_runS (n := 2) (rest := []) (as := [.int (iI x), .int (iI (absI (F 46 t)))]) hx hb hml hown hts ((met_max l x (absI (F 46 t)) (by omega) (by unfold absI; split <;> omega)).jm) (fun _ _ _ _ _ => trivial) (fun _ _ _ => trivial) q973 q406 q76 q407 (by decide +kernel) ⟨rfl, rfl⟩ hR (by decide) ⟨Nat.zero_le _, Nat.zero_le _⟩ rfl hl.1 rfl (Nat.le_of_ble_eq_true rfl) dX0_read_137) ?_
          refine lv_istore_n (lv' := [(2, .int (iI (if x < (absI (F 46 t)) then (absI (F 46 t)) else x))), (3, .int (iI t)), (0, .ref (ad 0)), (1, .int (iI 3))]) hx hb dX0_read_140 rfl hl (by decide) rfl (fun ls hl => ?_)
          refine lv_iinc (v := iI (t + 1)) (lv' := [(3, .int (iI (t + 1))), (2, .int (iI (if x < (absI (F 46 t)) then (absI (F 46 t)) else x))), (0, .ref (ad 0)), (1, .int (iI 3))]) hx hb dX0_read_141 hl (k := 1) rfl (iI_add _ _) (by decide) rfl (fun ls hl => ?_)
          refine lv_goto (tgt := 119) hx hb dX0_read_144 (by decide) ?_
          exact ih13 (if x < (absI (F 46 t)) then (absI (F 46 t)) else x) (t + 1) (by omega) (by rw [mxS_s _ ht0, ← ex]; rfl) (by omega) (by omega) _ (lv_sub hl [0, 1, 2, 3] rfl)
    exact loop119_12 ((I 45 + 1 - 0 : Int).toNat + 1) 0 0 (by omega) rfl (by omega) (by omega) _ (lv_sub hl [0, 1, 2, 3] rfl)
