/-! THE COMPONENT: what only reads -/
set_option maxRecDepth 100000

theorem six_in2 {t per pha : Int} (ht : 0 ≤ t ∧ t ≤ 100000) (hp : 0 < per) (ha : 0 ≤ pha ∧ pha ≤ 15) : (0 ≤ (t * 16).tdiv per ∧ (t * 16).tdiv per ≤ 1600000) ∧ 0 ≤ ((t * 16).tdiv per + pha).tmod 16 ∧ ((t * 16).tdiv per + pha).tmod 16 < 16 := by
  rw [Int.mul_comm t 16]
  exact six_in ht hp ha
theorem dX3_wet_0 : decode cX3_wet 0 = .ok (.iconst 0, 1) := by decide +kernel
theorem dX3_wet_1 : decode cX3_wet 1 = .ok (.istore 5, 2) := by decide +kernel
theorem dX3_wet_3 : decode cX3_wet 3 = .ok (.aload_n 0, 1) := by decide +kernel
theorem dX3_wet_4 : decode cX3_wet 4 = .ok (.getfield 9, 3) := by decide +kernel
theorem dX3_wet_7 : decode cX3_wet 7 = .ok (.iload_n 1, 1) := by decide +kernel
theorem dX3_wet_8 : decode cX3_wet 8 = .ok (.iaload, 1) := by decide +kernel
theorem dX3_wet_9 : decode cX3_wet 9 = .ok (.ineg, 1) := by decide +kernel
theorem dX3_wet_10 : decode cX3_wet 10 = .ok (.istore 6, 2) := by decide +kernel
theorem dX3_wet_12 : decode cX3_wet 12 = .ok (.iload 6, 2) := by decide +kernel
theorem dX3_wet_14 : decode cX3_wet 14 = .ok (.aload_n 0, 1) := by decide +kernel
theorem dX3_wet_15 : decode cX3_wet 15 = .ok (.getfield 9, 3) := by decide +kernel
theorem dX3_wet_18 : decode cX3_wet 18 = .ok (.iload_n 1, 1) := by decide +kernel
theorem dX3_wet_19 : decode cX3_wet 19 = .ok (.iaload, 1) := by decide +kernel
theorem dX3_wet_20 : decode cX3_wet 20 = .ok (.if_icmp .ge 50, 3) := by decide +kernel
theorem dX3_wet_23 : decode cX3_wet 23 = .ok (.bipush 100, 2) := by decide +kernel
theorem dX3_wet_25 : decode cX3_wet 25 = .ok (.iconst 2, 1) := by decide +kernel
theorem dX3_wet_26 : decode cX3_wet 26 = .ok (.iload_n 1, 1) := by decide +kernel
theorem dX3_wet_27 : decode cX3_wet 27 = .ok (.imul, 1) := by decide +kernel
theorem dX3_wet_28 : decode cX3_wet 28 = .ok (.iconst 1, 1) := by decide +kernel
theorem dX3_wet_29 : decode cX3_wet 29 = .ok (.iadd, 1) := by decide +kernel
theorem dX3_wet_30 : decode cX3_wet 30 = .ok (.imul, 1) := by decide +kernel
theorem dX3_wet_31 : decode cX3_wet 31 = .ok (.iload_n 3, 1) := by decide +kernel
theorem dX3_wet_32 : decode cX3_wet 32 = .ok (.iload_n 2, 1) := by decide +kernel
theorem dX3_wet_33 : decode cX3_wet 33 = .ok (.iconst 2, 1) := by decide +kernel
theorem dX3_wet_34 : decode cX3_wet 34 = .ok (.iload 6, 2) := by decide +kernel
theorem dX3_wet_36 : decode cX3_wet 36 = .ok (.imul, 1) := by decide +kernel
theorem dX3_wet_37 : decode cX3_wet 37 = .ok (.iconst 1, 1) := by decide +kernel
theorem dX3_wet_38 : decode cX3_wet 38 = .ok (.iadd, 1) := by decide +kernel
theorem dX3_wet_39 : decode cX3_wet 39 = .ok (.imul, 1) := by decide +kernel
theorem dX3_wet_40 : decode cX3_wet 40 = .ok (.iadd, 1) := by decide +kernel
theorem dX3_wet_41 : decode cX3_wet 41 = .ok (.if_icmp .gt 23, 3) := by decide +kernel
theorem dX3_wet_44 : decode cX3_wet 44 = .ok (.iload 5, 2) := by decide +kernel
theorem dX3_wet_46 : decode cX3_wet 46 = .ok (.iload 4, 2) := by decide +kernel
theorem dX3_wet_48 : decode cX3_wet 48 = .ok (.ifCond .eq 12, 3) := by decide +kernel
theorem dX3_wet_51 : decode cX3_wet 51 = .ok (.iconst 2, 1) := by decide +kernel
theorem dX3_wet_52 : decode cX3_wet 52 = .ok (.iload 6, 2) := by decide +kernel
theorem dX3_wet_54 : decode cX3_wet 54 = .ok (.imul, 1) := by decide +kernel
theorem dX3_wet_55 : decode cX3_wet 55 = .ok (.iconst 1, 1) := by decide +kernel
theorem dX3_wet_56 : decode cX3_wet 56 = .ok (.iadd, 1) := by decide +kernel
theorem dX3_wet_57 : decode cX3_wet 57 = .ok (.goto 4, 3) := by decide +kernel
theorem dX3_wet_60 : decode cX3_wet 60 = .ok (.iconst 1, 1) := by decide +kernel
theorem dX3_wet_61 : decode cX3_wet 61 = .ok (.iadd, 1) := by decide +kernel
theorem dX3_wet_62 : decode cX3_wet 62 = .ok (.istore 5, 2) := by decide +kernel
theorem dX3_wet_64 : decode cX3_wet 64 = .ok (.iinc 6 1, 3) := by decide +kernel
theorem dX3_wet_67 : decode cX3_wet 67 = .ok (.goto (-55), 3) := by decide +kernel
theorem dX3_wet_70 : decode cX3_wet 70 = .ok (.iload 5, 2) := by decide +kernel
theorem dX3_wet_72 : decode cX3_wet 72 = .ok (.ireturn, 1) := by decide +kernel
set_option maxHeartbeats 4000000 in
theorem cwet (l : Launch) (adK adV st : Nat → Nat) (D : va_G) (E : Nat → ClassId) (A : Nat → Prop) (ad nv : Nat → Nat) (I : Nat → Int) (F : Nat → Int → Int) (S : Nat → Nat → Int) (Y : Nat → Int → Int) (L : Nat → Nat) (k zz sl lv bz : Int) (hk : 0 ≤ k ∧ k < ((nv 0 : Nat) : Int) ∧ k < 6) (hz : 0 ≤ zz ∧ zz < 10) (hs : -80 ≤ sl ∧ sl ≤ 80) (hlv : -4000 ≤ lv ∧ lv ≤ 4000) (hbz : bz = 0 ∨ bz = 1) (gh0 : gHull I F) : JM l yX3_wet cX3_wet 7 (some .int) (mrm 0) (CX adK adV st D E A ad nv I F S Y L) [.ref (ad (3000 + k.toNat)), .int (iI zz), .int (iI sl), .int (iI lv), .int (iI bz)] (vp_Si (fun r => r = iI (if bz = 0 then cntS sl lv (2 * zz + 1) (F 3 (10 * k + zz)) (2 * F 3 (10 * k + zz)) else plcS sl lv (2 * zz + 1) (F 3 (10 * k + zz)) (2 * F 3 (10 * k + zz))))) := by
  refine j_start (by decide) rfl (Nat.le_of_ble_eq_true rfl) ?_
  intro p e R s m args below meth c ls Q hR hQ hC hml hr hlk hB hl
  have hx := hC.1
  have hb := hC.2.1
  have hown := hC.2.2.1
  have hts := hC.2.2.2
  have hS : va_S A s.heap s.heap [] := va_S.rf
  have hK := hB.1
  have hG := hB.2.1
  have hE := hB.2.2
  have hCK : CK p m c _ s args _ D E := ⟨hx, hb, hown, hts, hK⟩
  have hl : lv_has ls 7 [(0, .ref (ad (3000 + k.toNat))), (1, .int (iI zz)), (2, .int (iI sl)), (3, .int (iI lv)), (4, .int (iI bz))] := hl
  obtain ⟨i1, a2, a3⟩ := id gh0
  have b3 := a3 (10 * k + zz) (by omega) (by omega)
  refine r_iconst hx hb dX3_wet_0 ?_
  refine lv_istore (lv' := [(5, .int (iI 0)), (0, .ref (ad (3000 + k.toNat))), (1, .int (iI zz)), (2, .int (iI sl)), (3, .int (iI lv)), (4, .int (iI bz))]) hx hb dX3_wet_1 hl (by decide) rfl (fun ls hl => ?_)
  refine lv_aload_n hx hb dX3_wet_3 rfl (lv_at hl 1 rfl) ?_
  refine cg_X3_9 (z := k) hCK hG (by omega) dX3_wet_4 ?_
  refine lv_iload_n hx hb dX3_wet_7 rfl (lv_at hl 2 rfl) ?_
  refine cl_hal (v := F 3 (10 * k + zz)) (k := k) hCK hG (by omega) (by omega) rfl dX3_wet_8 ?_
  refine r_ineg hx hb dX3_wet_9 ?_
  refine lv_istore (lv' := [(6, .int (iI (-(F 3 (10 * k + zz))))), (5, .int (iI 0)), (0, .ref (ad (3000 + k.toNat))), (1, .int (iI zz)), (2, .int (iI sl)), (3, .int (iI lv)), (4, .int (iI bz))]) hx hb dX3_wet_10 hl (by decide) rfl (fun ls hl => ?_)
  have loop12_1 : ∀ (n : Nat) (u x : Int), F 3 (10 * k + zz) - x < (n : Int) → u = (if bz = 0 then cntS sl lv (2 * zz + 1) (F 3 (10 * k + zz)) (x + F 3 (10 * k + zz)) else plcS sl lv (2 * zz + 1) (F 3 (10 * k + zz)) (x + F 3 (10 * k + zz))) → -(F 3 (10 * k + zz)) ≤ x → x ≤ F 3 (10 * k + zz) → ∀ (ls : Array Slot), lv_has ls 7 [(6, .int (iI x)), (5, .int (iI u)), (0, .ref (ad (3000 + k.toNat))), (1, .int (iI zz)), (2, .int (iI sl)), (3, .int (iI lv)), (4, .int (iI bz))] → W p l e R s m args below meth c s.heap [] 0 0 Q (F0 m 12 ls []) := by
    intro n
    induction n with
    | zero => intro u x hn3 ex hx0 hx1; exfalso; omega
    | succ n ih2 =>
      intro u x hn3 ex hx0 hx1 ls hl
      refine lv_iload hx hb dX3_wet_12 (lv_at hl 0 rfl) ?_
      refine lv_aload_n hx hb dX3_wet_14 rfl (lv_at hl 2 rfl) ?_
      refine cg_X3_9 (z := k) hCK hG (by omega) dX3_wet_15 ?_
      refine lv_iload_n hx hb dX3_wet_18 rfl (lv_at hl 3 rfl) ?_
      refine cl_hal (v := F 3 (10 * k + zz)) (k := k) hCK hG (by omega) (by omega) rfl dX3_wet_19 ?_
      refine r_icmp_ge (tgt := 70) hx hb dX3_wet_20 (by decide) (by omega) (by omega) (fun c4 => ?_) (fun c4 => ?_)
      · refine lv_iload hx hb dX3_wet_70 (lv_at hl 1 rfl) ?_
        exact j_iret hC hr hlk hQ dX3_wet_72 (by rw [ex, show x + F 3 (10 * k + zz) = 2 * F 3 (10 * k + zz) by omega])
      · have hm := mul_bd (A := 80) (B := 17) (a := sl) (b := 2 * x + 1) (by omega) (by omega)
        refine r_bipush hx hb dX3_wet_23 (by decide) ?_
        refine r_iconst hx hb dX3_wet_25 ?_
        refine lv_iload_n hx hb dX3_wet_26 rfl (lv_at hl 3 rfl) ?_
        refine r_imul hx hb dX3_wet_27 ?_
        refine r_iconst hx hb dX3_wet_28 ?_
        refine r_iadd hx hb dX3_wet_29 ?_
        refine r_imul hx hb dX3_wet_30 ?_
        refine lv_iload_n hx hb dX3_wet_31 rfl (lv_at hl 5 rfl) ?_
        refine lv_iload_n hx hb dX3_wet_32 rfl (lv_at hl 4 rfl) ?_
        refine r_iconst hx hb dX3_wet_33 ?_
        refine lv_iload hx hb dX3_wet_34 (lv_at hl 0 rfl) ?_
        refine r_imul hx hb dX3_wet_36 ?_
        refine r_iconst hx hb dX3_wet_37 ?_
        refine r_iadd hx hb dX3_wet_38 ?_
        refine r_imul hx hb dX3_wet_39 ?_
        refine r_iadd hx hb dX3_wet_40 ?_
        refine r_icmp_gt (tgt := 64) hx hb dX3_wet_41 (by decide) (by omega) (by omega) (fun c5 => ?_) (fun c5 => ?_)
        · refine lv_iinc (v := iI (x + 1)) (lv' := [(6, .int (iI (x + 1))), (5, .int (iI u)), (0, .ref (ad (3000 + k.toNat))), (1, .int (iI zz)), (2, .int (iI sl)), (3, .int (iI lv)), (4, .int (iI bz))]) hx hb dX3_wet_64 hl (k := 0) rfl (iI_add _ _) (by decide) rfl (fun ls hl => ?_)
          refine lv_goto (tgt := 12) hx hb dX3_wet_67 (by decide) ?_
          have hnc : ¬ 100 * (2 * zz + 1) ≤ lv + sl * (2 * x + 1) := by omega
          exact ih2 u (x + 1) (by omega) (by rw [ex, cntS_s _ _ _ _ (by omega), plcS_s _ _ _ _ (by omega), if_neg hnc, if_neg hnc, Int.add_zero, Int.add_zero]) (by omega) (by omega) _ (lv_sub hl [0, 1, 2, 3, 4, 5, 6] rfl)
        · refine lv_iload hx hb dX3_wet_44 (lv_at hl 1 rfl) ?_
          refine lv_iload hx hb dX3_wet_46 (lv_at hl 6 rfl) ?_
          refine r_if_eq (tgt := 60) hx hb dX3_wet_48 (by decide) (by omega) (fun c6 => ?_) (fun c6 => ?_)
          · refine r_iconst hx hb dX3_wet_60 ?_
            refine r_iadd hx hb dX3_wet_61 ?_
            refine lv_istore (lv' := [(5, .int (iI (u + 1))), (6, .int (iI x)), (0, .ref (ad (3000 + k.toNat))), (1, .int (iI zz)), (2, .int (iI sl)), (3, .int (iI lv)), (4, .int (iI bz))]) hx hb dX3_wet_62 hl (by decide) rfl (fun ls hl => ?_)
            refine lv_iinc (v := iI (x + 1)) (lv' := [(6, .int (iI (x + 1))), (5, .int (iI (u + 1))), (0, .ref (ad (3000 + k.toNat))), (1, .int (iI zz)), (2, .int (iI sl)), (3, .int (iI lv)), (4, .int (iI bz))]) hx hb dX3_wet_64 hl (k := 1) rfl (iI_add _ _) (by decide) rfl (fun ls hl => ?_)
            refine lv_goto (tgt := 12) hx hb dX3_wet_67 (by decide) ?_
            exact ih2 (u + 1) (x + 1) (by omega) (by rw [ex, cntS_s _ _ _ _ (by omega), plcS_s _ _ _ _ (by omega), if_pos (show bz = 0 by omega), if_pos (show bz = 0 by omega), if_pos (by omega)]) (by omega) (by omega) _ (lv_sub hl [0, 1, 2, 3, 4, 5, 6] rfl)
          · refine r_iconst hx hb dX3_wet_51 ?_
            refine lv_iload hx hb dX3_wet_52 (lv_at hl 0 rfl) ?_
            refine r_imul hx hb dX3_wet_54 ?_
            refine r_iconst hx hb dX3_wet_55 ?_
            refine r_iadd hx hb dX3_wet_56 ?_
            refine lv_goto (tgt := 61) hx hb dX3_wet_57 (by decide) ?_
            refine r_iadd hx hb dX3_wet_61 ?_
            refine lv_istore (lv' := [(5, .int (iI (u + ((2 * x) + 1)))), (6, .int (iI x)), (0, .ref (ad (3000 + k.toNat))), (1, .int (iI zz)), (2, .int (iI sl)), (3, .int (iI lv)), (4, .int (iI bz))]) hx hb dX3_wet_62 hl (by decide) rfl (fun ls hl => ?_)
            refine lv_iinc (v := iI (x + 1)) (lv' := [(6, .int (iI (x + 1))), (5, .int (iI (u + ((2 * x) + 1)))), (0, .ref (ad (3000 + k.toNat))), (1, .int (iI zz)), (2, .int (iI sl)), (3, .int (iI lv)), (4, .int (iI bz))]) hx hb dX3_wet_64 hl (k := 1) rfl (iI_add _ _) (by decide) rfl (fun ls hl => ?_)
            refine lv_goto (tgt := 12) hx hb dX3_wet_67 (by decide) ?_
            exact ih2 (u + ((2 * x) + 1)) (x + 1) (by omega) (by rw [ex, cntS_s _ _ _ _ (by omega), plcS_s _ _ _ _ (by omega), if_neg (show ¬ bz = 0 by omega), if_neg (show ¬ bz = 0 by omega), if_pos (by omega)]) (by omega) (by omega) _ (lv_sub hl [0, 1, 2, 3, 4, 5, 6] rfl)
  exact loop12_1 ((F 3 (10 * k + zz) - (-(F 3 (10 * k + zz))) : Int).toNat + 1) 0 (-(F 3 (10 * k + zz))) (by omega) (by rw [show -(F 3 (10 * k + zz)) + F 3 (10 * k + zz) = 0 by omega]; show (0 : Int) = _; split <;> rfl) (by omega) (by omega) _ (lv_sub hl [0, 1, 2, 3, 4, 5, 6] rfl)
theorem dX5_place_0 : decode cX5_place 0 = .ok (.aload_n 0, 1) := by decide +kernel
theorem dX5_place_1 : decode cX5_place 1 = .ok (.getfield 19, 3) := by decide +kernel
theorem dX5_place_4 : decode cX5_place 4 = .ok (.ifCond .eq 14, 3) := by decide +kernel
theorem dX5_place_7 : decode cX5_place 7 = .ok (.aload_n 0, 1) := by decide +kernel
theorem dX5_place_8 : decode cX5_place 8 = .ok (.getfield 19, 3) := by decide +kernel
theorem dX5_place_11 : decode cX5_place 11 = .ok (.aload_n 0, 1) := by decide +kernel
theorem dX5_place_12 : decode cX5_place 12 = .ok (.getfield 16, 3) := by decide +kernel
theorem dX5_place_15 : decode cX5_place 15 = .ok (.if_icmp .ne 7, 3) := by decide +kernel
theorem dX5_place_18 : decode cX5_place 18 = .ok (.iconst 0, 1) := by decide +kernel
theorem dX5_place_19 : decode cX5_place 19 = .ok (.goto 12, 3) := by decide +kernel
theorem dX5_place_22 : decode cX5_place 22 = .ok (.iload_n 1, 1) := by decide +kernel
theorem dX5_place_23 : decode cX5_place 23 = .ok (.aload_n 0, 1) := by decide +kernel
theorem dX5_place_24 : decode cX5_place 24 = .ok (.getfield 7, 3) := by decide +kernel
theorem dX5_place_27 : decode cX5_place 27 = .ok (.imul, 1) := by decide +kernel
theorem dX5_place_28 : decode cX5_place 28 = .ok (.bipush 100, 2) := by decide +kernel
theorem dX5_place_30 : decode cX5_place 30 = .ok (.idiv, 1) := by decide +kernel
theorem dX5_place_31 : decode cX5_place 31 = .ok (.ireturn, 1) := by decide +kernel
set_option maxHeartbeats 4000000 in
theorem cplace (l : Launch) (adK adV st : Nat → Nat) (D : va_G) (E : Nat → ClassId) (A : Nat → Prop) (ad nv : Nat → Nat) (I : Nat → Int) (F : Nat → Int → Int) (S : Nat → Nat → Int) (Y : Nat → Int → Int) (L : Nat → Nat) (k sl : Int) (hk : 0 ≤ k ∧ k < ((nv 2 : Nat) : Int) ∧ k < 4) (hs : -80 ≤ sl ∧ sl ≤ 80) (gl0 : gLoad I F) : JM l yX5_place cX5_place 2 (some .int) (mrm 0) (CX adK adV st D E A ad nv I F S Y L) [.ref (ad (3300 + k.toNat)), .int (iI sl)] (vp_Si (fun r => r = iI (tpS (F 14 k) (F 13 k) (F 11 k) sl))) := by
  refine j_start (by decide) rfl (Nat.le_of_ble_eq_true rfl) ?_
  intro p e R s m args below meth c ls Q hR hQ hC hml hr hlk hB hl
  have hx := hC.1
  have hb := hC.2.1
  have hown := hC.2.2.1
  have hts := hC.2.2.2
  have hS : va_S A s.heap s.heap [] := va_S.rf
  have hK := hB.1
  have hG := hB.2.1
  have hE := hB.2.2
  have hCK : CK p m c _ s args _ D E := ⟨hx, hb, hown, hts, hK⟩
  have hl : lv_has ls 2 [(0, .ref (ad (3300 + k.toNat))), (1, .int (iI sl))] := hl
  obtain ⟨i4, a5, a6, a7, a8, a9, i10, a11, a12, a13, a14, a14h⟩ := id gl0
  have b14 := a14 k (by omega) (by omega)
  have b13 := a13 k (by omega) (by omega)
  have b11 := a11 k (by omega) (by omega)
  have hh := a14h k (by omega) (by omega)
  have hm := mul_bd (A := 80) (B := 9) (a := sl) (b := F 11 k) (by omega) (by omega)
  refine lv_aload_n hx hb dX5_place_0 rfl (lv_at hl 0 rfl) ?_
  refine cg_X5_19 (v := F 14 k) (z := k) hCK hG (by omega) rfl dX5_place_1 ?_
  refine r_if_eq (tgt := 18) hx hb dX5_place_4 (by decide) (by omega) (fun c1 => ?_) (fun c1 => ?_)
  · refine r_iconst hx hb dX5_place_18 ?_
    refine lv_goto (tgt := 31) hx hb dX5_place_19 (by decide) ?_
    exact j_iret hC hr hlk hQ dX5_place_31 (by unfold tpS; first | rw [if_pos (by omega)] | rw [if_neg (by omega)])
  · refine lv_aload_n hx hb dX5_place_7 rfl (lv_at hl 0 rfl) ?_
    refine cg_X5_19 (v := F 14 k) (z := k) hCK hG (by omega) rfl dX5_place_8 ?_
    refine lv_aload_n hx hb dX5_place_11 rfl (lv_at hl 0 rfl) ?_
    refine cg_X5_16 (v := F 13 k) (z := k) hCK hG (by omega) rfl dX5_place_12 ?_
    refine r_icmp_ne (tgt := 22) hx hb dX5_place_15 (by decide) (by omega) (by omega) (fun c2 => ?_) (fun c2 => ?_)
    · refine lv_iload_n hx hb dX5_place_22 rfl (lv_at hl 1 rfl) ?_
      refine lv_aload_n hx hb dX5_place_23 rfl (lv_at hl 0 rfl) ?_
      refine cg_X5_7 (v := F 11 k) (z := k) hCK hG (by omega) rfl dX5_place_24 ?_
      refine r_imul hx hb dX5_place_27 ?_
      refine r_bipush hx hb dX5_place_28 (by decide) ?_
      refine r_idiv hx hb dX5_place_30 (by omega) (by decide) (by decide) ?_
      exact j_iret hC hr hlk hQ dX5_place_31 (by unfold tpS; first | rw [if_pos (by omega)] | rw [if_neg (by omega)])
    · refine r_iconst hx hb dX5_place_18 ?_
      refine lv_goto (tgt := 31) hx hb dX5_place_19 (by decide) ?_
      exact j_iret hC hr hlk hQ dX5_place_31 (by unfold tpS; first | rw [if_pos (by omega)] | rw [if_neg (by omega)])
theorem dX6_sine_0 : decode cX6_sine 0 = .ok (.getstatic 19, 3) := by decide +kernel
theorem dX6_sine_3 : decode cX6_sine 3 = .ok (.iload_n 1, 1) := by decide +kernel
theorem dX6_sine_4 : decode cX6_sine 4 = .ok (.bipush 16, 2) := by decide +kernel
theorem dX6_sine_6 : decode cX6_sine 6 = .ok (.imul, 1) := by decide +kernel
theorem dX6_sine_7 : decode cX6_sine 7 = .ok (.aload_n 0, 1) := by decide +kernel
theorem dX6_sine_8 : decode cX6_sine 8 = .ok (.getfield 13, 3) := by decide +kernel
theorem dX6_sine_11 : decode cX6_sine 11 = .ok (.idiv, 1) := by decide +kernel
theorem dX6_sine_12 : decode cX6_sine 12 = .ok (.aload_n 0, 1) := by decide +kernel
theorem dX6_sine_13 : decode cX6_sine 13 = .ok (.getfield 16, 3) := by decide +kernel
theorem dX6_sine_16 : decode cX6_sine 16 = .ok (.iadd, 1) := by decide +kernel
theorem dX6_sine_17 : decode cX6_sine 17 = .ok (.bipush 16, 2) := by decide +kernel
theorem dX6_sine_19 : decode cX6_sine 19 = .ok (.irem, 1) := by decide +kernel
theorem dX6_sine_20 : decode cX6_sine 20 = .ok (.iaload, 1) := by decide +kernel
theorem dX6_sine_21 : decode cX6_sine 21 = .ok (.ireturn, 1) := by decide +kernel
set_option maxHeartbeats 4000000 in
theorem csine (l : Launch) (adK adV st : Nat → Nat) (D : va_G) (E : Nat → ClassId) (A : Nat → Prop) (ad nv : Nat → Nat) (I : Nat → Int) (F : Nat → Int → Int) (S : Nat → Nat → Int) (Y : Nat → Int → Int) (L : Nat → Nat) (k t : Int) (hk : 0 ≤ k ∧ k < I 18) (ht : 0 ≤ t ∧ t ≤ 100000) (gs0 : gSea I F) (n3 : ((nv 3 : Nat) : Int) = I 18) : JM l yX6_sine cX6_sine 2 (some .int) (mrm 0) (CX adK adV st D E A ad nv I F S Y L) [.ref (ad (3400 + k.toNat)), .int (iI t)] (vp_Si (fun r => r = iI (sineS (F 20 k) (F 21 k) t))) := by
  refine j_start (by decide) rfl (Nat.le_of_ble_eq_true rfl) ?_
  intro p e R s m args below meth c ls Q hR hQ hC hml hr hlk hB hl
  have hx := hC.1
  have hb := hC.2.1
  have hown := hC.2.2.1
  have hts := hC.2.2.2
  have hS : va_S A s.heap s.heap [] := va_S.rf
  have hK := hB.1
  have hG := hB.2.1
  have hE := hB.2.2
  have hCK : CK p m c _ s args _ D E := ⟨hx, hb, hown, hts, hK⟩
  have hl : lv_has ls 2 [(0, .ref (ad (3400 + k.toNat))), (1, .int (iI t))] := hl
  obtain ⟨i18, a0, a19, a20, a21⟩ := id gs0
  have b20 := a20 k hk.1 hk.2
  have b21 := a21 k (by omega) (by omega)
  have hs := six_in2 (t := t) (per := F 20 k) (pha := F 21 k) ht (by omega) b21
  refine va_getsN hx hb hE.2.2.1.2.2.2 hS hown (va_Nw.use rfl (hE.2.2.2.2.1 _ (nw_w q834 rfl))) (fun x h => h) dX6_sine_0 ?_
  refine lv_iload_n hx hb dX6_sine_3 rfl (lv_at hl 1 rfl) ?_
  refine r_bipush hx hb dX6_sine_4 (by decide) ?_
  refine r_imul hx hb dX6_sine_6 ?_
  refine lv_aload_n hx hb dX6_sine_7 rfl (lv_at hl 0 rfl) ?_
  refine cg_X6_13 (v := F 20 k) (z := k) hCK hG (by omega) rfl dX6_sine_8 ?_
  refine r_idiv hx hb dX6_sine_11 (by omega) (by omega) (by omega) ?_
  refine lv_aload_n hx hb dX6_sine_12 rfl (lv_at hl 0 rfl) ?_
  refine cg_X6_16 (v := F 21 k) (z := k) hCK hG (by omega) rfl dX6_sine_13 ?_
  refine r_iadd hx hb dX6_sine_16 ?_
  refine r_bipush hx hb dX6_sine_17 (by decide) ?_
  refine r_irem hx hb dX6_sine_19 (by omega) (by decide) (by decide) ?_
  refine e_sin hx hb hE hS hs.2 dX6_sine_20 ?_
  exact j_iret hC hr hlk hQ dX6_sine_21 (by unfold sineS; rw [Int.mul_comm t 16])
theorem dX6_push_0 : decode cX6_push 0 = .ok (.aload_n 0, 1) := by decide +kernel
theorem dX6_push_1 : decode cX6_push 1 = .ok (.getfield 7, 3) := by decide +kernel
theorem dX6_push_4 : decode cX6_push 4 = .ok (.aload_n 0, 1) := by decide +kernel
theorem dX6_push_5 : decode cX6_push 5 = .ok (.iload_n 1, 1) := by decide +kernel
theorem dX6_push_6 : decode cX6_push 6 = .ok (.invokevirtual 25, 3) := by decide +kernel
theorem dX6_push_9 : decode cX6_push 9 = .ok (.imul, 1) := by decide +kernel
theorem dX6_push_10 : decode cX6_push 10 = .ok (.sipush 1000, 3) := by decide +kernel
theorem dX6_push_13 : decode cX6_push 13 = .ok (.idiv, 1) := by decide +kernel
theorem dX6_push_14 : decode cX6_push 14 = .ok (.ireturn, 1) := by decide +kernel
set_option maxHeartbeats 4000000 in
theorem cwpush (l : Launch) (adK adV st : Nat → Nat) (D : va_G) (E : Nat → ClassId) (A : Nat → Prop) (ad nv : Nat → Nat) (I : Nat → Int) (F : Nat → Int → Int) (S : Nat → Nat → Int) (Y : Nat → Int → Int) (L : Nat → Nat) (k t : Int) (hk : 0 ≤ k ∧ k < I 18) (ht : 0 ≤ t ∧ t ≤ 100000) (gs0 : gSea I F) (n3 : ((nv 3 : Nat) : Int) = I 18) : JM l yX6_push cX6_push 2 (some .int) (mrm 1) (CX adK adV st D E A ad nv I F S Y L) [.ref (ad (3400 + k.toNat)), .int (iI t)] (vp_Si (fun r => r = iI ((F 19 k * sineS (F 20 k) (F 21 k) t).tdiv 1000))) := by
  refine j_start (by decide) rfl (Nat.le_of_ble_eq_true rfl) ?_
  intro p e R s m args below meth c ls Q hR hQ hC hml hr hlk hB hl
  have hx := hC.1
  have hb := hC.2.1
  have hown := hC.2.2.1
  have hts := hC.2.2.2
  have hS : va_S A s.heap s.heap [] := va_S.rf
  have hK := hB.1
  have hG := hB.2.1
  have hE := hB.2.2
  have hCK : CK p m c _ s args _ D E := ⟨hx, hb, hown, hts, hK⟩
  have hl : lv_has ls 2 [(0, .ref (ad (3400 + k.toNat))), (1, .int (iI t))] := hl
  obtain ⟨i18, a0, a19, a20, a21⟩ := id gs0
  have b19 := a19 k (by omega) (by omega)
  have hmb := mul_bd (A := 60) (B := 1000) (a := F 19 k) (b := sineS (F 20 k) (F 21 k) t) (by omega) (sin16_bd _)
  refine lv_aload_n hx hb dX6_push_0 rfl (lv_at hl 0 rfl) ?_
  refine cg_X6_7 (v := F 19 k) (z := k) hCK hG (by omega) rfl dX6_push_1 ?_
  refine lv_aload_n hx hb dX6_push_4 rfl (lv_at hl 0 rfl) ?_
  refine lv_iload_n hx hb dX6_push_5 rfl (lv_at hl 1 rfl) ?_
  refine s_calli (j_runV (n := 1) (C := RX6) (b := ad (3400 + k.toNat)) (rest := [.int (iI (F 19 k))]) (as := [.int (iI t)]) hx hb hml hown hts (csine l adK adV st D E A ad nv I F S Y L k t (by omega) (by omega) gs0 (by omega)) GB.blind (GB.at hK hG hE hS) (g_rec (r := 3400 + k.toNat) (ci := 6) hK hG (by have := (show (0 : Int) ≤ k ∧ k < 100 by omega); unfold cV; omega) rfl (cC_wv (by have := (show (0 : Int) ≤ k ∧ k < 100 by omega); omega))) q830 q831 q832 q83 q833 (by decide +kernel) ⟨rfl, rfl⟩ hR (by decide) ⟨Nat.zero_le _, Nat.zero_le _⟩ rfl hl.1 rfl (Nat.le_of_ble_eq_true rfl) dX6_push_6) ?_
  refine r_imul hx hb dX6_push_9 ?_
  refine r_sipush hx hb dX6_push_10 (by decide) ?_
  refine r_idiv hx hb dX6_push_13 (by omega) (by decide) (by decide) ?_
  exact j_iret hC hr hlk hQ dX6_push_14 (rfl)
theorem dX0_heavy_0 : decode cX0_heavy 0 = .ok (.iconst 0, 1) := by decide +kernel
theorem dX0_heavy_1 : decode cX0_heavy 1 = .ok (.istore_n 1, 1) := by decide +kernel
theorem dX0_heavy_2 : decode cX0_heavy 2 = .ok (.iconst 0, 1) := by decide +kernel
theorem dX0_heavy_3 : decode cX0_heavy 3 = .ok (.istore_n 2, 1) := by decide +kernel
theorem dX0_heavy_4 : decode cX0_heavy 4 = .ok (.iload_n 2, 1) := by decide +kernel
theorem dX0_heavy_5 : decode cX0_heavy 5 = .ok (.aload_n 0, 1) := by decide +kernel
theorem dX0_heavy_6 : decode cX0_heavy 6 = .ok (.getfield 38, 3) := by decide +kernel
theorem dX0_heavy_9 : decode cX0_heavy 9 = .ok (.invokevirtual 125, 3) := by decide +kernel
theorem dX0_heavy_12 : decode cX0_heavy 12 = .ok (.if_icmp .ge 47, 3) := by decide +kernel
theorem dX0_heavy_15 : decode cX0_heavy 15 = .ok (.iload_n 1, 1) := by decide +kernel
theorem dX0_heavy_16 : decode cX0_heavy 16 = .ok (.aload_n 0, 1) := by decide +kernel
theorem dX0_heavy_17 : decode cX0_heavy 17 = .ok (.getfield 38, 3) := by decide +kernel
theorem dX0_heavy_20 : decode cX0_heavy 20 = .ok (.iload_n 2, 1) := by decide +kernel
theorem dX0_heavy_21 : decode cX0_heavy 21 = .ok (.invokevirtual 159, 3) := by decide +kernel
theorem dX0_heavy_24 : decode cX0_heavy 24 = .ok (.checkcast 154, 3) := by decide +kernel
theorem dX0_heavy_27 : decode cX0_heavy 27 = .ok (.getfield 163, 3) := by decide +kernel
theorem dX0_heavy_30 : decode cX0_heavy 30 = .ok (.ifCond .eq 7, 3) := by decide +kernel
theorem dX0_heavy_33 : decode cX0_heavy 33 = .ok (.iconst 0, 1) := by decide +kernel
theorem dX0_heavy_34 : decode cX0_heavy 34 = .ok (.goto 17, 3) := by decide +kernel
theorem dX0_heavy_37 : decode cX0_heavy 37 = .ok (.aload_n 0, 1) := by decide +kernel
theorem dX0_heavy_38 : decode cX0_heavy 38 = .ok (.getfield 38, 3) := by decide +kernel
theorem dX0_heavy_41 : decode cX0_heavy 41 = .ok (.iload_n 2, 1) := by decide +kernel
theorem dX0_heavy_42 : decode cX0_heavy 42 = .ok (.invokevirtual 159, 3) := by decide +kernel
theorem dX0_heavy_45 : decode cX0_heavy 45 = .ok (.checkcast 154, 3) := by decide +kernel
theorem dX0_heavy_48 : decode cX0_heavy 48 = .ok (.getfield 189, 3) := by decide +kernel
theorem dX0_heavy_51 : decode cX0_heavy 51 = .ok (.iadd, 1) := by decide +kernel
theorem dX0_heavy_52 : decode cX0_heavy 52 = .ok (.istore_n 1, 1) := by decide +kernel
theorem dX0_heavy_53 : decode cX0_heavy 53 = .ok (.iinc 2 1, 3) := by decide +kernel
theorem dX0_heavy_56 : decode cX0_heavy 56 = .ok (.goto (-52), 3) := by decide +kernel
theorem dX0_heavy_59 : decode cX0_heavy 59 = .ok (.iconst 0, 1) := by decide +kernel
theorem dX0_heavy_60 : decode cX0_heavy 60 = .ok (.istore_n 2, 1) := by decide +kernel
theorem dX0_heavy_61 : decode cX0_heavy 61 = .ok (.iload_n 2, 1) := by decide +kernel
theorem dX0_heavy_62 : decode cX0_heavy 62 = .ok (.aload_n 0, 1) := by decide +kernel
theorem dX0_heavy_63 : decode cX0_heavy 63 = .ok (.getfield 41, 3) := by decide +kernel
theorem dX0_heavy_66 : decode cX0_heavy 66 = .ok (.invokevirtual 125, 3) := by decide +kernel
theorem dX0_heavy_69 : decode cX0_heavy 69 = .ok (.if_icmp .ge 26, 3) := by decide +kernel
theorem dX0_heavy_72 : decode cX0_heavy 72 = .ok (.iload_n 1, 1) := by decide +kernel
theorem dX0_heavy_73 : decode cX0_heavy 73 = .ok (.aload_n 0, 1) := by decide +kernel
theorem dX0_heavy_74 : decode cX0_heavy 74 = .ok (.getfield 41, 3) := by decide +kernel
theorem dX0_heavy_77 : decode cX0_heavy 77 = .ok (.iload_n 2, 1) := by decide +kernel
theorem dX0_heavy_78 : decode cX0_heavy 78 = .ok (.invokevirtual 159, 3) := by decide +kernel
theorem dX0_heavy_81 : decode cX0_heavy 81 = .ok (.checkcast 175, 3) := by decide +kernel
theorem dX0_heavy_84 : decode cX0_heavy 84 = .ok (.getfield 183, 3) := by decide +kernel
theorem dX0_heavy_87 : decode cX0_heavy 87 = .ok (.iadd, 1) := by decide +kernel
theorem dX0_heavy_88 : decode cX0_heavy 88 = .ok (.istore_n 1, 1) := by decide +kernel
theorem dX0_heavy_89 : decode cX0_heavy 89 = .ok (.iinc 2 1, 3) := by decide +kernel
theorem dX0_heavy_92 : decode cX0_heavy 92 = .ok (.goto (-31), 3) := by decide +kernel
theorem dX0_heavy_95 : decode cX0_heavy 95 = .ok (.iload_n 1, 1) := by decide +kernel
theorem dX0_heavy_96 : decode cX0_heavy 96 = .ok (.ireturn, 1) := by decide +kernel
set_option maxHeartbeats 4000000 in
theorem cheavy (l : Launch) (adK adV st : Nat → Nat) (D : va_G) (E : Nat → ClassId) (A : Nat → Prop) (ad nv : Nat → Nat) (I : Nat → Int) (F : Nat → Int → Int) (S : Nat → Nat → Int) (Y : Nat → Int → Int) (L : Nat → Nat) (hn : cOK nv I L) (gl0 : gLoad I F) : JM l yX0_heavy cX0_heavy 3 (some .int) (mrm 3) (CX adK adV st D E A ad nv I F S Y L) [.ref (ad 0)] (vp_Si (fun r => r = iI (heavyS (I 4) (F 9) (F 5) (I 10) (F 14)))) := by
  refine j_start (by decide) rfl (Nat.le_of_ble_eq_true rfl) ?_
  intro p e R s m args below meth c ls Q hR hQ hC hml hr hlk hB hl
  have hx := hC.1
  have hb := hC.2.1
  have hown := hC.2.2.1
  have hts := hC.2.2.2
  have hS : va_S A s.heap s.heap [] := va_S.rf
  have hK := hB.1
  have hG := hB.2.1
  have hE := hB.2.2
  have hCK : CK p m c _ s args _ D E := ⟨hx, hb, hown, hts, hK⟩
  have hl : lv_has ls 3 [(0, .ref (ad 0))] := hl
  obtain ⟨⟨n0, n1, n2, n3⟩, ⟨l0, l1, l2, l3⟩, c0, c1, c2, c3⟩ := id hn
  obtain ⟨i4, a5, a6, a7, a8, a9, i10, a11, a12, a13, a14, a14h⟩ := id gl0
  refine r_iconst hx hb dX0_heavy_0 ?_
  refine lv_istore_n (lv' := [(1, .int (iI 0)), (0, .ref (ad 0))]) hx hb dX0_heavy_1 rfl hl (by decide) rfl (fun ls hl => ?_)
  refine r_iconst hx hb dX0_heavy_2 ?_
  refine lv_istore_n (lv' := [(2, .int (iI 0)), (1, .int (iI 0)), (0, .ref (ad 0))]) hx hb dX0_heavy_3 rfl hl (by decide) rfl (fun ls hl => ?_)
  have loop4_1 : ∀ (n : Nat) (x k : Int), I 4 - k < (n : Int) → (x = sm (fun w => if F 9 w = 0 then F 5 w else 0) k) → 0 ≤ k → k ≤ I 4 → ∀ (ls : Array Slot), lv_has ls 3 [(2, .int (iI k)), (1, .int (iI x)), (0, .ref (ad 0))] → W p l e R s m args below meth c s.heap [] 0 0 Q (F0 m 4 ls []) := by
    intro n
    induction n with
    | zero => intro x k hn3 ex hk0 hk1; exfalso; omega
    | succ n ih2 =>
      intro x k hn3 ex hk0 hk1 ls hl
      refine lv_iload_n hx hb dX0_heavy_4 rfl (lv_at hl 0 rfl) ?_
      refine lv_aload_n hx hb dX0_heavy_5 rfl (lv_at hl 2 rfl) ?_
      refine cg_X0_38 hCK hG dX0_heavy_6 ?_
      refine s_calli (j_runV (n := 0) (C := RJ2) (b := ad 12) (rest := [.int (iI k)]) (as := []) hx hb hml hown hts (lsz_12 l adK adV st D E A ad nv I F S Y L) GB.blind (GB.at hK hG hE hS) (g_rec (r := 12) (ci := 10) hK hG (Or.inl (by decide)) rfl (cC_l (by decide))) q641 q614 q615 q71 q616 (by decide +kernel) ⟨rfl, rfl⟩ hR (by decide) ⟨Nat.zero_le _, Nat.zero_le _⟩ rfl hl.1 rfl (Nat.le_of_ble_eq_true rfl) dX0_heavy_9) ?_
      refine r_icmp_ge (tgt := 59) hx hb dX0_heavy_12 (by decide) (by omega) (by omega) (fun c4 => ?_) (fun c4 => ?_)
      · have ek : k = I 4 := by omega
        refine r_iconst hx hb dX0_heavy_59 ?_
        refine lv_istore_n (lv' := [(2, .int (iI 0)), (1, .int (iI x)), (0, .ref (ad 0))]) hx hb dX0_heavy_60 rfl hl (by decide) rfl (fun ls hl => ?_)
        have loop61_5 : ∀ (n : Nat) (y j : Int), I 10 - j < (n : Int) → (y = sm (fun w => if F 9 w = 0 then F 5 w else 0) (I 4) + sm (F 14) j) → 0 ≤ j → j ≤ I 10 → ∀ (ls : Array Slot), lv_has ls 3 [(2, .int (iI j)), (1, .int (iI y)), (0, .ref (ad 0))] → W p l e R s m args below meth c s.heap [] 0 0 Q (F0 m 61 ls []) := by
          intro n
          induction n with
          | zero => intro y j hn7 ey hj0 hj1; exfalso; omega
          | succ n ih6 =>
            intro y j hn7 ey hj0 hj1 ls hl
            refine lv_iload_n hx hb dX0_heavy_61 rfl (lv_at hl 0 rfl) ?_
            refine lv_aload_n hx hb dX0_heavy_62 rfl (lv_at hl 2 rfl) ?_
            refine cg_X0_41 hCK hG dX0_heavy_63 ?_
            refine s_calli (j_runV (n := 0) (C := RJ2) (b := ad 13) (rest := [.int (iI j)]) (as := []) hx hb hml hown hts (lsz_13 l adK adV st D E A ad nv I F S Y L) GB.blind (GB.at hK hG hE hS) (g_rec (r := 13) (ci := 10) hK hG (Or.inl (by decide)) rfl (cC_l (by decide))) q641 q614 q615 q71 q616 (by decide +kernel) ⟨rfl, rfl⟩ hR (by decide) ⟨Nat.zero_le _, Nat.zero_le _⟩ rfl hl.1 rfl (Nat.le_of_ble_eq_true rfl) dX0_heavy_66) ?_
            refine r_icmp_ge (tgt := 95) hx hb dX0_heavy_69 (by decide) (by omega) (by omega) (fun c8 => ?_) (fun c8 => ?_)
            · refine lv_iload_n hx hb dX0_heavy_95 rfl (lv_at hl 1 rfl) ?_
              have ej : j = I 10 := by omega
              exact j_iret hC hr hlk hQ dX0_heavy_96 (by unfold heavyS; rw [ey, ej])
            · refine lv_iload_n hx hb dX0_heavy_72 rfl (lv_at hl 1 rfl) ?_
              refine lv_aload_n hx hb dX0_heavy_73 rfl (lv_at hl 2 rfl) ?_
              refine cg_X0_41 hCK hG dX0_heavy_74 ?_
              refine lv_iload_n hx hb dX0_heavy_77 rfl (lv_at hl 0 rfl) ?_
              refine j_callr (j_runV (n := 1) (C := RJ2) (b := ad 13) (rest := [.int (iI y)]) (as := [.int (iI j)]) hx hb hml hown hts (lgt_13 l adK adV st D E A ad nv I F S Y L j (by omega) (by omega) (by omega)) GB.blind (GB.at hK hG hE hS) (g_rec (r := 13) (ci := 10) hK hG (Or.inl (by decide)) rfl (cC_l (by decide))) q703 q620 q621 q71 q622 (by decide +kernel) ⟨rfl, rfl⟩ hR (by decide) ⟨Nat.zero_le _, Nat.zero_le _⟩ rfl hl.1 rfl (Nat.le_of_ble_eq_true rfl) dX0_heavy_78) ?_
              refine c_cast (r := 3300 + j.toNat) (ci := 5) hCK hG (by have := (show (0 : Int) ≤ j ∧ j < 100 by omega); unfold cV; omega) rfl (cC_tk (by have := (show (0 : Int) ≤ j ∧ j < 100 by omega); omega)) q710 dX0_heavy_81 ?_
              refine cg_X0_183 (v := F 14 j) (z := j) hCK hE hG (by omega) rfl dX0_heavy_84 ?_
              refine r_iadd hx hb dX0_heavy_87 ?_
              refine lv_istore_n (lv' := [(1, .int (iI (y + (F 14 j)))), (2, .int (iI j)), (0, .ref (ad 0))]) hx hb dX0_heavy_88 rfl hl (by decide) rfl (fun ls hl => ?_)
              refine lv_iinc (v := iI (j + 1)) (lv' := [(2, .int (iI (j + 1))), (1, .int (iI (y + (F 14 j)))), (0, .ref (ad 0))]) hx hb dX0_heavy_89 hl (k := 1) rfl (iI_add _ _) (by decide) rfl (fun ls hl => ?_)
              refine lv_goto (tgt := 61) hx hb dX0_heavy_92 (by decide) ?_
              exact ih6 (y + (F 14 j)) (j + 1) (by omega) (by rw [ey, sm_s _ hj0, Int.add_assoc]) (by omega) (by omega) _ (lv_sub hl [0, 1, 2] rfl)
        exact loop61_5 ((I 10 - 0 : Int).toNat + 1) x 0 (by omega) (by rw [ex, ek, sm_0, Int.add_zero]) (by omega) (by omega) _ (lv_sub hl [0, 1, 2] rfl)
      · have b9 := a9 k (by omega) (by omega)
        refine lv_iload_n hx hb dX0_heavy_15 rfl (lv_at hl 1 rfl) ?_
        refine lv_aload_n hx hb dX0_heavy_16 rfl (lv_at hl 2 rfl) ?_
        refine cg_X0_38 hCK hG dX0_heavy_17 ?_
        refine lv_iload_n hx hb dX0_heavy_20 rfl (lv_at hl 0 rfl) ?_
        refine j_callr (j_runV (n := 1) (C := RJ2) (b := ad 12) (rest := [.int (iI x)]) (as := [.int (iI k)]) hx hb hml hown hts (lgt_12 l adK adV st D E A ad nv I F S Y L k (by omega) (by omega) (by omega)) GB.blind (GB.at hK hG hE hS) (g_rec (r := 12) (ci := 10) hK hG (Or.inl (by decide)) rfl (cC_l (by decide))) q703 q620 q621 q71 q622 (by decide +kernel) ⟨rfl, rfl⟩ hR (by decide) ⟨Nat.zero_le _, Nat.zero_le _⟩ rfl hl.1 rfl (Nat.le_of_ble_eq_true rfl) dX0_heavy_21) ?_
        refine c_cast (r := 3200 + k.toNat) (ci := 4) hCK hG (by have := (show (0 : Int) ≤ k ∧ k < 100 by omega); unfold cV; omega) rfl (cC_wt (by have := (show (0 : Int) ≤ k ∧ k < 100 by omega); omega)) q668 dX0_heavy_24 ?_
        refine cg_X0_163 (v := F 9 k) (z := k) hCK hE hG (by omega) rfl dX0_heavy_27 ?_
        have jn9 : W p l e R s m args below meth c s.heap [] 0 0 Q (F0 m 51 ls [.int (iI (if F 9 k = 0 then F 5 k else 0)), .int (iI x)]) := by
          refine r_iadd hx hb dX0_heavy_51 ?_
          refine lv_istore_n (lv' := [(1, .int (iI (x + (if F 9 k = 0 then F 5 k else 0)))), (2, .int (iI k)), (0, .ref (ad 0))]) hx hb dX0_heavy_52 rfl hl (by decide) rfl (fun ls hl => ?_)
          refine lv_iinc (v := iI (k + 1)) (lv' := [(2, .int (iI (k + 1))), (1, .int (iI (x + (if F 9 k = 0 then F 5 k else 0)))), (0, .ref (ad 0))]) hx hb dX0_heavy_53 hl (k := 1) rfl (iI_add _ _) (by decide) rfl (fun ls hl => ?_)
          refine lv_goto (tgt := 4) hx hb dX0_heavy_56 (by decide) ?_
          exact ih2 (x + (if F 9 k = 0 then F 5 k else 0)) (k + 1) (by omega) (by rw [ex, sm_s _ hk0]) (by omega) (by omega) _ (lv_sub hl [0, 1, 2] rfl)
        refine r_if_eq (tgt := 37) hx hb dX0_heavy_30 (by decide) (by omega) (fun c10 => ?_) (fun c10 => ?_)
        · refine lv_aload_n hx hb dX0_heavy_37 rfl (lv_at hl 2 rfl) ?_
          refine cg_X0_38 hCK hG dX0_heavy_38 ?_
          refine lv_iload_n hx hb dX0_heavy_41 rfl (lv_at hl 0 rfl) ?_
          refine j_callr (j_runV (n := 1) (C := RJ2) (b := ad 12) (rest := [.int (iI x)]) (as := [.int (iI k)]) hx hb hml hown hts (lgt_12 l adK adV st D E A ad nv I F S Y L k (by omega) (by omega) (by omega)) GB.blind (GB.at hK hG hE hS) (g_rec (r := 12) (ci := 10) hK hG (Or.inl (by decide)) rfl (cC_l (by decide))) q703 q620 q621 q71 q622 (by decide +kernel) ⟨rfl, rfl⟩ hR (by decide) ⟨Nat.zero_le _, Nat.zero_le _⟩ rfl hl.1 rfl (Nat.le_of_ble_eq_true rfl) dX0_heavy_42) ?_
          refine c_cast (r := 3200 + k.toNat) (ci := 4) hCK hG (by have := (show (0 : Int) ≤ k ∧ k < 100 by omega); unfold cV; omega) rfl (cC_wt (by have := (show (0 : Int) ≤ k ∧ k < 100 by omega); omega)) q668 dX0_heavy_45 ?_
          refine cg_X0_189 (v := F 5 k) (z := k) hCK hE hG (by omega) rfl dX0_heavy_48 ?_
          rw [if_pos (by omega)] at jn9
          exact jn9
        · refine r_iconst hx hb dX0_heavy_33 ?_
          refine lv_goto (tgt := 51) hx hb dX0_heavy_34 (by decide) ?_
          rw [if_neg (by omega)] at jn9
          exact jn9
  exact loop4_1 ((I 4 - 0 : Int).toNat + 1) 0 0 (by omega) rfl (by omega) (by omega) _ (lv_sub hl [0, 1, 2] rfl)
theorem dX0_push_0 : decode cX0_push 0 = .ok (.iconst 0, 1) := by decide +kernel
theorem dX0_push_1 : decode cX0_push 1 = .ok (.istore_n 3, 1) := by decide +kernel
theorem dX0_push_2 : decode cX0_push 2 = .ok (.iconst 0, 1) := by decide +kernel
theorem dX0_push_3 : decode cX0_push 3 = .ok (.istore 4, 2) := by decide +kernel
theorem dX0_push_5 : decode cX0_push 5 = .ok (.iload 4, 2) := by decide +kernel
theorem dX0_push_7 : decode cX0_push 7 = .ok (.aload_n 0, 1) := by decide +kernel
theorem dX0_push_8 : decode cX0_push 8 = .ok (.getfield 34, 3) := by decide +kernel
theorem dX0_push_11 : decode cX0_push 11 = .ok (.invokevirtual 125, 3) := by decide +kernel
theorem dX0_push_14 : decode cX0_push 14 = .ok (.if_icmp .ge 64, 3) := by decide +kernel
theorem dX0_push_17 : decode cX0_push 17 = .ok (.iconst 0, 1) := by decide +kernel
theorem dX0_push_18 : decode cX0_push 18 = .ok (.istore 5, 2) := by decide +kernel
theorem dX0_push_20 : decode cX0_push 20 = .ok (.iload 5, 2) := by decide +kernel
theorem dX0_push_22 : decode cX0_push 22 = .ok (.bipush 10, 2) := by decide +kernel
theorem dX0_push_24 : decode cX0_push 24 = .ok (.if_icmp .ge 48, 3) := by decide +kernel
theorem dX0_push_27 : decode cX0_push 27 = .ok (.iload_n 3, 1) := by decide +kernel
theorem dX0_push_28 : decode cX0_push 28 = .ok (.aload_n 0, 1) := by decide +kernel
theorem dX0_push_29 : decode cX0_push 29 = .ok (.getfield 34, 3) := by decide +kernel
theorem dX0_push_32 : decode cX0_push 32 = .ok (.iload 4, 2) := by decide +kernel
theorem dX0_push_34 : decode cX0_push 34 = .ok (.invokevirtual 159, 3) := by decide +kernel
theorem dX0_push_37 : decode cX0_push 37 = .ok (.checkcast 129, 3) := by decide +kernel
theorem dX0_push_40 : decode cX0_push 40 = .ok (.getfield 192, 3) := by decide +kernel
theorem dX0_push_43 : decode cX0_push 43 = .ok (.aload_n 0, 1) := by decide +kernel
theorem dX0_push_44 : decode cX0_push 44 = .ok (.getfield 34, 3) := by decide +kernel
theorem dX0_push_47 : decode cX0_push 47 = .ok (.iload 4, 2) := by decide +kernel
theorem dX0_push_49 : decode cX0_push 49 = .ok (.invokevirtual 159, 3) := by decide +kernel
theorem dX0_push_52 : decode cX0_push 52 = .ok (.checkcast 129, 3) := by decide +kernel
theorem dX0_push_55 : decode cX0_push 55 = .ok (.iload 5, 2) := by decide +kernel
theorem dX0_push_57 : decode cX0_push 57 = .ok (.iload_n 1, 1) := by decide +kernel
theorem dX0_push_58 : decode cX0_push 58 = .ok (.iload_n 2, 1) := by decide +kernel
theorem dX0_push_59 : decode cX0_push 59 = .ok (.iconst 0, 1) := by decide +kernel
theorem dX0_push_60 : decode cX0_push 60 = .ok (.invokevirtual 195, 3) := by decide +kernel
theorem dX0_push_63 : decode cX0_push 63 = .ok (.imul, 1) := by decide +kernel
theorem dX0_push_64 : decode cX0_push 64 = .ok (.iadd, 1) := by decide +kernel
theorem dX0_push_65 : decode cX0_push 65 = .ok (.istore_n 3, 1) := by decide +kernel
theorem dX0_push_66 : decode cX0_push 66 = .ok (.iinc 5 1, 3) := by decide +kernel
theorem dX0_push_69 : decode cX0_push 69 = .ok (.goto (-49), 3) := by decide +kernel
theorem dX0_push_72 : decode cX0_push 72 = .ok (.iinc 4 1, 3) := by decide +kernel
theorem dX0_push_75 : decode cX0_push 75 = .ok (.goto (-70), 3) := by decide +kernel
theorem dX0_push_78 : decode cX0_push 78 = .ok (.iload_n 3, 1) := by decide +kernel
theorem dX0_push_79 : decode cX0_push 79 = .ok (.ireturn, 1) := by decide +kernel
set_option maxHeartbeats 4000000 in
theorem cpush (l : Launch) (adK adV st : Nat → Nat) (D : va_G) (E : Nat → ClassId) (A : Nat → Prop) (ad nv : Nat → Nat) (I : Nat → Int) (F : Nat → Int → Int) (S : Nat → Nat → Int) (Y : Nat → Int → Int) (L : Nat → Nat) (sl lv : Int) (hs : -80 ≤ sl ∧ sl ≤ 80) (hlv : -4000 ≤ lv ∧ lv ≤ 4000) (hn : cOK nv I L) (gh0 : gHull I F) : JM l yX0_push cX0_push 6 (some .int) (mrm 3) (CX adK adV st D E A ad nv I F S Y L) [.ref (ad 0), .int (iI sl), .int (iI lv)] (vp_Si (fun r => r = iI (pushS (I 1) (F 2) (F 3) sl lv))) := by
  refine j_start (by decide) rfl (Nat.le_of_ble_eq_true rfl) ?_
  intro p e R s m args below meth c ls Q hR hQ hC hml hr hlk hB hl
  have hx := hC.1
  have hb := hC.2.1
  have hown := hC.2.2.1
  have hts := hC.2.2.2
  have hS : va_S A s.heap s.heap [] := va_S.rf
  have hK := hB.1
  have hG := hB.2.1
  have hE := hB.2.2
  have hCK : CK p m c _ s args _ D E := ⟨hx, hb, hown, hts, hK⟩
  have hl : lv_has ls 6 [(0, .ref (ad 0)), (1, .int (iI sl)), (2, .int (iI lv))] := hl
  obtain ⟨⟨n0, n1, n2, n3⟩, ⟨l0, l1, l2, l3⟩, c0, c1, c2, c3⟩ := id hn
  obtain ⟨i1, a2, a3⟩ := id gh0
  refine r_iconst hx hb dX0_push_0 ?_
  refine lv_istore_n (lv' := [(3, .int (iI 0)), (0, .ref (ad 0)), (1, .int (iI sl)), (2, .int (iI lv))]) hx hb dX0_push_1 rfl hl (by decide) rfl (fun ls hl => ?_)
  refine r_iconst hx hb dX0_push_2 ?_
  refine lv_istore (lv' := [(4, .int (iI 0)), (3, .int (iI 0)), (0, .ref (ad 0)), (1, .int (iI sl)), (2, .int (iI lv))]) hx hb dX0_push_3 hl (by decide) rfl (fun ls hl => ?_)
  have loop5_1 : ∀ (n : Nat) (x k : Int), I 1 - k < (n : Int) → x = sm (fun k => sm (rowC (F 2) (F 3) sl lv k) 10) k → 0 ≤ k → k ≤ I 1 → ∀ (ls : Array Slot), lv_has ls 6 [(4, .int (iI k)), (3, .int (iI x)), (0, .ref (ad 0)), (1, .int (iI sl)), (2, .int (iI lv))] → W p l e R s m args below meth c s.heap [] 0 0 Q (F0 m 5 ls []) := by
    intro n
    induction n with
    | zero => intro x k hn3 ex hk0 hk1; exfalso; omega
    | succ n ih2 =>
      intro x k hn3 ex hk0 hk1 ls hl
      refine lv_iload hx hb dX0_push_5 (lv_at hl 0 rfl) ?_
      refine lv_aload_n hx hb dX0_push_7 rfl (lv_at hl 2 rfl) ?_
      refine cg_X0_34 hCK hG dX0_push_8 ?_
      refine s_calli (j_runV (n := 0) (C := RJ2) (b := ad 11) (rest := [.int (iI k)]) (as := []) hx hb hml hown hts (lsz_11 l adK adV st D E A ad nv I F S Y L) GB.blind (GB.at hK hG hE hS) (g_rec (r := 11) (ci := 10) hK hG (Or.inl (by decide)) rfl (cC_l (by decide))) q641 q614 q615 q71 q616 (by decide +kernel) ⟨rfl, rfl⟩ hR (by decide) ⟨Nat.zero_le _, Nat.zero_le _⟩ rfl hl.1 rfl (Nat.le_of_ble_eq_true rfl) dX0_push_11) ?_
      refine r_icmp_ge (tgt := 78) hx hb dX0_push_14 (by decide) (by omega) (by omega) (fun c4 => ?_) (fun c4 => ?_)
      · have ek : k = I 1 := by omega
        refine lv_iload_n hx hb dX0_push_78 rfl (lv_at hl 1 rfl) ?_
        exact j_iret hC hr hlk hQ dX0_push_79 (by unfold pushS; rw [ex, ek])
      · refine r_iconst hx hb dX0_push_17 ?_
        refine lv_istore (lv' := [(5, .int (iI 0)), (4, .int (iI k)), (3, .int (iI x)), (0, .ref (ad 0)), (1, .int (iI sl)), (2, .int (iI lv))]) hx hb dX0_push_18 hl (by decide) rfl (fun ls hl => ?_)
        have loop20_5 : ∀ (n : Nat) (y zz : Int), 10 - zz < (n : Int) → y = sm (fun k => sm (rowC (F 2) (F 3) sl lv k) 10) k + sm (rowC (F 2) (F 3) sl lv k) zz → 0 ≤ zz → zz ≤ 10 → ∀ (ls : Array Slot), lv_has ls 6 [(5, .int (iI zz)), (4, .int (iI k)), (3, .int (iI y)), (0, .ref (ad 0)), (1, .int (iI sl)), (2, .int (iI lv))] → W p l e R s m args below meth c s.heap [] 0 0 Q (F0 m 20 ls []) := by
          intro n
          induction n with
          | zero => intro y zz hn7 ey hz0 hz1; exfalso; omega
          | succ n ih6 =>
            intro y zz hn7 ey hz0 hz1 ls hl
            refine lv_iload hx hb dX0_push_20 (lv_at hl 0 rfl) ?_
            refine r_bipush hx hb dX0_push_22 (by decide) ?_
            refine r_icmp_ge (tgt := 72) hx hb dX0_push_24 (by decide) (by omega) (by decide) (fun c8 => ?_) (fun c8 => ?_)
            · have ez : zz = 10 := by omega
              refine lv_iinc (v := iI (k + 1)) (lv' := [(4, .int (iI (k + 1))), (5, .int (iI zz)), (3, .int (iI y)), (0, .ref (ad 0)), (1, .int (iI sl)), (2, .int (iI lv))]) hx hb dX0_push_72 hl (k := 1) rfl (iI_add _ _) (by decide) rfl (fun ls hl => ?_)
              refine lv_goto (tgt := 5) hx hb dX0_push_75 (by decide) ?_
              exact ih2 y (k + 1) (by omega) (by rw [ey, ez, sm_s _ hk0]) (by omega) (by omega) _ (lv_sub hl [0, 2, 3, 4, 5] rfl)
            · refine lv_iload_n hx hb dX0_push_27 rfl (lv_at hl 2 rfl) ?_
              refine lv_aload_n hx hb dX0_push_28 rfl (lv_at hl 3 rfl) ?_
              refine cg_X0_34 hCK hG dX0_push_29 ?_
              refine lv_iload hx hb dX0_push_32 (lv_at hl 1 rfl) ?_
              refine j_callr (j_runV (n := 1) (C := RJ2) (b := ad 11) (rest := [.int (iI y)]) (as := [.int (iI k)]) hx hb hml hown hts (lgt_11 l adK adV st D E A ad nv I F S Y L k (by omega) (by omega) (by omega)) GB.blind (GB.at hK hG hE hS) (g_rec (r := 11) (ci := 10) hK hG (Or.inl (by decide)) rfl (cC_l (by decide))) q703 q620 q621 q71 q622 (by decide +kernel) ⟨rfl, rfl⟩ hR (by decide) ⟨Nat.zero_le _, Nat.zero_le _⟩ rfl hl.1 rfl (Nat.le_of_ble_eq_true rfl) dX0_push_34) ?_
              refine c_cast (r := 3000 + k.toNat) (ci := 3) hCK hG (by have := (show (0 : Int) ≤ k ∧ k < 100 by omega); unfold cV; omega) rfl (cC_sl (by have := (show (0 : Int) ≤ k ∧ k < 100 by omega); omega)) q642 dX0_push_37 ?_
              refine cg_X0_192 (v := F 2 k) (z := k) hCK hE hG (by omega) rfl dX0_push_40 ?_
              refine lv_aload_n hx hb dX0_push_43 rfl (lv_at hl 3 rfl) ?_
              refine cg_X0_34 hCK hG dX0_push_44 ?_
              refine lv_iload hx hb dX0_push_47 (lv_at hl 1 rfl) ?_
              refine j_callr (j_runV (n := 1) (C := RJ2) (b := ad 11) (rest := [.int (iI (F 2 k)), .int (iI y)]) (as := [.int (iI k)]) hx hb hml hown hts (lgt_11 l adK adV st D E A ad nv I F S Y L k (by omega) (by omega) (by omega)) GB.blind (GB.at hK hG hE hS) (g_rec (r := 11) (ci := 10) hK hG (Or.inl (by decide)) rfl (cC_l (by decide))) q703 q620 q621 q71 q622 (by decide +kernel) ⟨rfl, rfl⟩ hR (by decide) ⟨Nat.zero_le _, Nat.zero_le _⟩ rfl hl.1 rfl (Nat.le_of_ble_eq_true rfl) dX0_push_49) ?_
              refine c_cast (r := 3000 + k.toNat) (ci := 3) hCK hG (by have := (show (0 : Int) ≤ k ∧ k < 100 by omega); unfold cV; omega) rfl (cC_sl (by have := (show (0 : Int) ≤ k ∧ k < 100 by omega); omega)) q642 dX0_push_52 ?_
              refine lv_iload hx hb dX0_push_55 (lv_at hl 0 rfl) ?_
              refine lv_iload_n hx hb dX0_push_57 rfl (lv_at hl 4 rfl) ?_
              refine lv_iload_n hx hb dX0_push_58 rfl (lv_at hl 5 rfl) ?_
              refine r_iconst hx hb dX0_push_59 ?_
              refine s_calli (j_runV (n := 4) (C := RX3) (b := ad (3000 + k.toNat)) (rest := [.int (iI (F 2 k)), .int (iI y)]) (as := [.int (iI zz), .int (iI sl), .int (iI lv), .int (iI 0)]) hx hb hml hown hts (cwet l adK adV st D E A ad nv I F S Y L k zz sl lv 0 (by omega) (by omega) (by omega) (by omega) (by omega) gh0) GB.blind (GB.at hK hG hE hS) (g_rec (r := 3000 + k.toNat) (ci := 3) hK hG (by have := (show (0 : Int) ≤ k ∧ k < 100 by omega); unfold cV; omega) rfl (cC_sl (by have := (show (0 : Int) ≤ k ∧ k < 100 by omega); omega))) q759 q760 q761 q74 q762 (by decide +kernel) ⟨rfl, rfl⟩ hR (by decide) ⟨Nat.zero_le _, Nat.zero_le _⟩ rfl hl.1 rfl (Nat.le_of_ble_eq_true rfl) dX0_push_60) ?_
              refine W.eq (g2 := F0 m 63 ls [.int (iI (cntS sl lv (2 * zz + 1) (F 3 (10 * k + zz)) (2 * F 3 (10 * k + zz)))), .int (iI (F 2 k)), .int (iI y)]) rfl ?_
              refine r_imul hx hb dX0_push_63 ?_
              refine r_iadd hx hb dX0_push_64 ?_
              refine lv_istore_n (lv' := [(3, .int (iI (y + ((F 2 k) * (cntS sl lv (2 * zz + 1) (F 3 (10 * k + zz)) (2 * F 3 (10 * k + zz))))))), (5, .int (iI zz)), (4, .int (iI k)), (0, .ref (ad 0)), (1, .int (iI sl)), (2, .int (iI lv))]) hx hb dX0_push_65 rfl hl (by decide) rfl (fun ls hl => ?_)
              refine lv_iinc (v := iI (zz + 1)) (lv' := [(5, .int (iI (zz + 1))), (3, .int (iI (y + ((F 2 k) * (cntS sl lv (2 * zz + 1) (F 3 (10 * k + zz)) (2 * F 3 (10 * k + zz))))))), (4, .int (iI k)), (0, .ref (ad 0)), (1, .int (iI sl)), (2, .int (iI lv))]) hx hb dX0_push_66 hl (k := 1) rfl (iI_add _ _) (by decide) rfl (fun ls hl => ?_)
              refine lv_goto (tgt := 20) hx hb dX0_push_69 (by decide) ?_
              exact ih6 (y + ((F 2 k) * (cntS sl lv (2 * zz + 1) (F 3 (10 * k + zz)) (2 * F 3 (10 * k + zz))))) (zz + 1) (by omega) (by rw [ey, sm_s _ hz0, Int.add_assoc]; rfl) (by omega) (by omega) _ (lv_sub hl [0, 2, 1, 3, 4, 5] rfl)
        exact loop20_5 ((10 - 0 : Int).toNat + 1) x 0 (by omega) (by rw [ex, sm_0, Int.add_zero]) (by omega) (by omega) _ (lv_sub hl [0, 1, 2, 3, 4, 5] rfl)
  exact loop5_1 ((I 1 - 0 : Int).toNat + 1) 0 0 (by omega) rfl (by omega) (by omega) _ (lv_sub hl [0, 1, 2, 3, 4] rfl)
theorem dX0_level_0 : decode cX0_level 0 = .ok (.aload_n 0, 1) := by decide +kernel
theorem dX0_level_1 : decode cX0_level 1 = .ok (.invokevirtual 199, 3) := by decide +kernel
theorem dX0_level_4 : decode cX0_level 4 = .ok (.istore_n 2, 1) := by decide +kernel
theorem dX0_level_5 : decode cX0_level 5 = .ok (.iload_n 2, 1) := by decide +kernel
theorem dX0_level_6 : decode cX0_level 6 = .ok (.ifCond .eq 15, 3) := by decide +kernel
theorem dX0_level_9 : decode cX0_level 9 = .ok (.aload_n 0, 1) := by decide +kernel
theorem dX0_level_10 : decode cX0_level 10 = .ok (.iload_n 1, 1) := by decide +kernel
theorem dX0_level_11 : decode cX0_level 11 = .ok (.sipush 4000, 3) := by decide +kernel
theorem dX0_level_14 : decode cX0_level 14 = .ok (.invokevirtual 202, 3) := by decide +kernel
theorem dX0_level_17 : decode cX0_level 17 = .ok (.iload_n 2, 1) := by decide +kernel
theorem dX0_level_18 : decode cX0_level 18 = .ok (.if_icmp .ge 6, 3) := by decide +kernel
theorem dX0_level_21 : decode cX0_level 21 = .ok (.ldc 206, 2) := by decide +kernel
theorem dX0_level_23 : decode cX0_level 23 = .ok (.ireturn, 1) := by decide +kernel
theorem dX0_level_24 : decode cX0_level 24 = .ok (.sipush (-2000), 3) := by decide +kernel
theorem dX0_level_27 : decode cX0_level 27 = .ok (.istore_n 3, 1) := by decide +kernel
theorem dX0_level_28 : decode cX0_level 28 = .ok (.sipush 4000, 3) := by decide +kernel
theorem dX0_level_31 : decode cX0_level 31 = .ok (.istore 4, 2) := by decide +kernel
theorem dX0_level_33 : decode cX0_level 33 = .ok (.iload_n 3, 1) := by decide +kernel
theorem dX0_level_34 : decode cX0_level 34 = .ok (.iload 4, 2) := by decide +kernel
theorem dX0_level_36 : decode cX0_level 36 = .ok (.if_icmp .ge 39, 3) := by decide +kernel
theorem dX0_level_39 : decode cX0_level 39 = .ok (.iload_n 3, 1) := by decide +kernel
theorem dX0_level_40 : decode cX0_level 40 = .ok (.iload 4, 2) := by decide +kernel
theorem dX0_level_42 : decode cX0_level 42 = .ok (.iadd, 1) := by decide +kernel
theorem dX0_level_43 : decode cX0_level 43 = .ok (.iconst 2, 1) := by decide +kernel
theorem dX0_level_44 : decode cX0_level 44 = .ok (.invokestatic 207, 3) := by decide +kernel
theorem dX0_level_47 : decode cX0_level 47 = .ok (.istore 5, 2) := by decide +kernel
theorem dX0_level_49 : decode cX0_level 49 = .ok (.aload_n 0, 1) := by decide +kernel
theorem dX0_level_50 : decode cX0_level 50 = .ok (.iload_n 1, 1) := by decide +kernel
theorem dX0_level_51 : decode cX0_level 51 = .ok (.iload 5, 2) := by decide +kernel
theorem dX0_level_53 : decode cX0_level 53 = .ok (.invokevirtual 202, 3) := by decide +kernel
theorem dX0_level_56 : decode cX0_level 56 = .ok (.iload_n 2, 1) := by decide +kernel
theorem dX0_level_57 : decode cX0_level 57 = .ok (.if_icmp .ge 11, 3) := by decide +kernel
theorem dX0_level_60 : decode cX0_level 60 = .ok (.iload 5, 2) := by decide +kernel
theorem dX0_level_62 : decode cX0_level 62 = .ok (.iconst 1, 1) := by decide +kernel
theorem dX0_level_63 : decode cX0_level 63 = .ok (.iadd, 1) := by decide +kernel
theorem dX0_level_64 : decode cX0_level 64 = .ok (.istore_n 3, 1) := by decide +kernel
theorem dX0_level_65 : decode cX0_level 65 = .ok (.goto 7, 3) := by decide +kernel
theorem dX0_level_68 : decode cX0_level 68 = .ok (.iload 5, 2) := by decide +kernel
theorem dX0_level_70 : decode cX0_level 70 = .ok (.istore 4, 2) := by decide +kernel
theorem dX0_level_72 : decode cX0_level 72 = .ok (.goto (-39), 3) := by decide +kernel
theorem dX0_level_75 : decode cX0_level 75 = .ok (.iload_n 3, 1) := by decide +kernel
theorem dX0_level_76 : decode cX0_level 76 = .ok (.ireturn, 1) := by decide +kernel
set_option maxHeartbeats 4000000 in
theorem clevel (l : Launch) (adK adV st : Nat → Nat) (D : va_G) (E : Nat → ClassId) (A : Nat → Prop) (ad nv : Nat → Nat) (I : Nat → Int) (F : Nat → Int → Int) (S : Nat → Nat → Int) (Y : Nat → Int → Int) (L : Nat → Nat) (sl : Int) (hs : -80 ≤ sl ∧ sl ≤ 80) (hn : cOK nv I L) (gh0 : gHull I F) (gl0 : gLoad I F) : JM l yX0_level cX0_level 6 (some .int) (mrm 4) (CX adK adV st D E A ad nv I F S Y L) [.ref (ad 0), .int (iI sl)] (vp_Si (fun r => r = iI (lvF (I 1) (F 2) (F 3) (heavyS (I 4) (F 9) (F 5) (I 10) (F 14)) sl))) := by
  refine j_start (by decide) rfl (Nat.le_of_ble_eq_true rfl) ?_
  intro p e R s m args below meth c ls Q hR hQ hC hml hr hlk hB hl
  have hx := hC.1
  have hb := hC.2.1
  have hown := hC.2.2.1
  have hts := hC.2.2.2
  have hS : va_S A s.heap s.heap [] := va_S.rf
  have hK := hB.1
  have hG := hB.2.1
  have hE := hB.2.2
  have hCK : CK p m c _ s args _ D E := ⟨hx, hb, hown, hts, hK⟩
  have hl : lv_has ls 6 [(0, .ref (ad 0)), (1, .int (iI sl))] := hl
  obtain ⟨i1, a2, a3⟩ := id gh0
  obtain ⟨i4, a5, a6, a7, a8, a9, i10, a11, a12, a13, a14, a14h⟩ := id gl0
  have hhv := heavyS_bd (lost := F 9) i4 i10 a5 a14
  have hpb := fun lv => pushS_bd sl lv i1 a2 a3
  refine lv_aload_n hx hb dX0_level_0 rfl (lv_at hl 0 rfl) ?_
  refine s_calli (j_runV (n := 0) (C := RX0) (b := ad 0) (rest := []) (as := []) hx hb hml hown hts (cheavy l adK adV st D E A ad nv I F S Y L hn gl0) GB.blind (GB.at hK hG hE hS) (g_rec (r := 0) (ci := 0) hK hG (Or.inl (by decide)) rfl cC_0) q751 q753 qs19 q68 q754 (by decide +kernel) ⟨rfl, rfl⟩ hR (by decide) ⟨Nat.zero_le _, Nat.zero_le _⟩ rfl hl.1 rfl (Nat.le_of_ble_eq_true rfl) dX0_level_1) ?_
  obtain ⟨hv, h_hv⟩ : ∃ x : Int, x = heavyS (I 4) (F 9) (F 5) (I 10) (F 14) := ⟨_, rfl⟩
  refine W.eq (g2 := F0 m 4 ls [.int (iI hv)]) (by subst h_hv; rfl) ?_
  refine lv_istore_n (lv' := [(2, .int (iI hv)), (0, .ref (ad 0)), (1, .int (iI sl))]) hx hb dX0_level_4 rfl hl (by decide) rfl (fun ls hl => ?_)
  refine lv_iload_n hx hb dX0_level_5 rfl (lv_at hl 0 rfl) ?_
  refine r_if_eq (tgt := 21) hx hb dX0_level_6 (by decide) (by omega) (fun c1 => ?_) (fun c1 => ?_)
  · refine r_ldc hx hb (-2147483648) hown (hts _ q746) (by decide) dX0_level_21 ?_
    exact j_iret hC hr hlk hQ dX0_level_23 (by unfold lvF levelS; rw [if_pos (Or.inl (by omega))])
  · have hp4 := hpb 4000
    refine lv_aload_n hx hb dX0_level_9 rfl (lv_at hl 1 rfl) ?_
    refine lv_iload_n hx hb dX0_level_10 rfl (lv_at hl 2 rfl) ?_
    refine r_sipush hx hb dX0_level_11 (by decide) ?_
    refine s_calli (j_runV (n := 2) (C := RX0) (b := ad 0) (rest := []) (as := [.int (iI sl), .int (iI 4000)]) hx hb hml hown hts (cpush l adK adV st D E A ad nv I F S Y L sl 4000 (by omega) (by omega) hn gh0) GB.blind (GB.at hK hG hE hS) (g_rec (r := 0) (ci := 0) hK hG (Or.inl (by decide)) rfl cC_0) q755 q757 qs20 q68 q758 (by decide +kernel) ⟨rfl, rfl⟩ hR (by decide) ⟨Nat.zero_le _, Nat.zero_le _⟩ rfl hl.1 rfl (Nat.le_of_ble_eq_true rfl) dX0_level_14) ?_
    refine lv_iload_n hx hb dX0_level_17 rfl (lv_at hl 0 rfl) ?_
    refine r_icmp_ge (tgt := 24) hx hb dX0_level_18 (by decide) (by omega) (by omega) (fun c2 => ?_) (fun c2 => ?_)
    · refine r_sipush hx hb dX0_level_24 (by decide) ?_
      refine lv_istore_n (lv' := [(3, .int (iI (-2000))), (2, .int (iI hv)), (0, .ref (ad 0)), (1, .int (iI sl))]) hx hb dX0_level_27 rfl hl (by decide) rfl (fun ls hl => ?_)
      refine r_sipush hx hb dX0_level_28 (by decide) ?_
      refine lv_istore (lv' := [(4, .int (iI 4000)), (3, .int (iI (-2000))), (2, .int (iI hv)), (0, .ref (ad 0)), (1, .int (iI sl))]) hx hb dX0_level_31 hl (by decide) rfl (fun ls hl => ?_)
      have loop33_3 : ∀ (n : Nat) (lo hi n0 : Int), hi - lo < (n : Int) → bis (pushS (I 1) (F 2) (F 3) sl) hv n0.toNat lo hi = lvF (I 1) (F 2) (F 3) (heavyS (I 4) (F 9) (F 5) (I 10) (F 14)) sl → -2000 ≤ lo → hi ≤ 4000 → lo ≤ hi → hi - lo ≤ n0 → ∀ (ls : Array Slot), lv_has ls 6 [(4, .int (iI hi)), (3, .int (iI lo)), (2, .int (iI hv)), (0, .ref (ad 0)), (1, .int (iI sl))] → W p l e R s m args below meth c s.heap [] 0 0 Q (F0 m 33 ls []) := by
        intro n
        induction n with
        | zero => intro lo hi n0 hn5 eb hl0 hh0 hlh hnn; exfalso; omega
        | succ n ih4 =>
          intro lo hi n0 hn5 eb hl0 hh0 hlh hnn ls hl
          refine lv_iload_n hx hb dX0_level_33 rfl (lv_at hl 1 rfl) ?_
          refine lv_iload hx hb dX0_level_34 (lv_at hl 0 rfl) ?_
          refine r_icmp_ge (tgt := 75) hx hb dX0_level_36 (by decide) (by omega) (by omega) (fun c6 => ?_) (fun c6 => ?_)
          · refine lv_iload_n hx hb dX0_level_75 rfl (lv_at hl 1 rfl) ?_
            exact j_iret hC hr hlk hQ dX0_level_76 (by rw [← eb, bis_eq (by omega)])
          · refine lv_iload_n hx hb dX0_level_39 rfl (lv_at hl 1 rfl) ?_
            refine lv_iload hx hb dX0_level_40 (lv_at hl 0 rfl) ?_
            refine r_iadd hx hb dX0_level_42 ?_
            refine r_iconst hx hb dX0_level_43 ?_
            refine s_calli (j_runS (n := 2) (rest := []) (as := [.int (iI (lo + hi)), .int (iI 2)]) hx hb hml hown hts ((met_fdiv l (lo + hi) 2 (by omega) (by omega)).jm) (fun _ _ _ _ _ => trivial) (fun _ _ _ => trivial) q763 q764 q76 q765 (by decide +kernel) ⟨rfl, rfl⟩ hR (by decide) ⟨Nat.zero_le _, Nat.zero_le _⟩ rfl hl.1 rfl (Nat.le_of_ble_eq_true rfl) dX0_level_44) ?_
            refine lv_istore (lv' := [(5, .int (iI ((lo + hi) / 2))), (4, .int (iI hi)), (3, .int (iI lo)), (2, .int (iI hv)), (0, .ref (ad 0)), (1, .int (iI sl))]) hx hb dX0_level_47 hl (by decide) rfl (fun ls hl => ?_)
            refine lv_aload_n hx hb dX0_level_49 rfl (lv_at hl 4 rfl) ?_
            refine lv_iload_n hx hb dX0_level_50 rfl (lv_at hl 5 rfl) ?_
            refine lv_iload hx hb dX0_level_51 (lv_at hl 0 rfl) ?_
            have hpm := hpb ((lo + hi) / 2)
            refine s_calli (j_runV (n := 2) (C := RX0) (b := ad 0) (rest := []) (as := [.int (iI sl), .int (iI ((lo + hi) / 2))]) hx hb hml hown hts (cpush l adK adV st D E A ad nv I F S Y L sl ((lo + hi) / 2) (by omega) (by omega) hn gh0) GB.blind (GB.at hK hG hE hS) (g_rec (r := 0) (ci := 0) hK hG (Or.inl (by decide)) rfl cC_0) q755 q757 qs20 q68 q758 (by decide +kernel) ⟨rfl, rfl⟩ hR (by decide) ⟨Nat.zero_le _, Nat.zero_le _⟩ rfl hl.1 rfl (Nat.le_of_ble_eq_true rfl) dX0_level_53) ?_
            refine lv_iload_n hx hb dX0_level_56 rfl (lv_at hl 3 rfl) ?_
            refine r_icmp_ge (tgt := 68) hx hb dX0_level_57 (by decide) (by omega) (by omega) (fun c7 => ?_) (fun c7 => ?_)
            · refine lv_iload hx hb dX0_level_68 (lv_at hl 0 rfl) ?_
              refine lv_istore (lv' := [(4, .int (iI ((lo + hi) / 2))), (5, .int (iI ((lo + hi) / 2))), (3, .int (iI lo)), (2, .int (iI hv)), (0, .ref (ad 0)), (1, .int (iI sl))]) hx hb dX0_level_70 hl (by decide) rfl (fun ls hl => ?_)
              refine lv_goto (tgt := 33) hx hb dX0_level_72 (by decide) ?_
              exact ih4 lo ((lo + hi) / 2) (n0 - 1) (by omega) (by rw [← eb, show n0.toNat = (n0 - 1).toNat + 1 by omega, bis_ge (by omega) (by omega)]) (by omega) (by omega) (by omega) (by omega) _ (lv_sub hl [0, 2, 3, 4, 5] rfl)
            · refine lv_iload hx hb dX0_level_60 (lv_at hl 0 rfl) ?_
              refine r_iconst hx hb dX0_level_62 ?_
              refine r_iadd hx hb dX0_level_63 ?_
              refine lv_istore_n (lv' := [(3, .int (iI (((lo + hi) / 2) + 1))), (5, .int (iI ((lo + hi) / 2))), (4, .int (iI hi)), (2, .int (iI hv)), (0, .ref (ad 0)), (1, .int (iI sl))]) hx hb dX0_level_64 rfl hl (by decide) rfl (fun ls hl => ?_)
              refine lv_goto (tgt := 72) hx hb dX0_level_65 (by decide) ?_
              refine lv_goto (tgt := 33) hx hb dX0_level_72 (by decide) ?_
              exact ih4 (((lo + hi) / 2) + 1) hi (n0 - 1) (by omega) (by rw [← eb, show n0.toNat = (n0 - 1).toNat + 1 by omega, bis_lt (by omega) (by omega)]) (by omega) (by omega) (by omega) (by omega) _ (lv_sub hl [2, 0, 3, 4, 5] rfl)
      exact loop33_3 ((4000 - (-2000) : Int).toNat + 1) (-2000) 4000 6000 (by omega) (by unfold lvF levelS; rw [← h_hv, if_neg (by omega)]; rfl) (by omega) (by omega) (by omega) (by omega) _ (lv_sub hl [0, 1, 2, 3, 4] rfl)
    · refine r_ldc hx hb (-2147483648) hown (hts _ q746) (by decide) dX0_level_21 ?_
      exact j_iret hC hr hlk hQ dX0_level_23 (by unfold lvF levelS; rw [if_pos (Or.inr (by omega))])
theorem dX0_seaAt_0 : decode cX0_seaAt 0 = .ok (.iconst 0, 1) := by decide +kernel
theorem dX0_seaAt_1 : decode cX0_seaAt 1 = .ok (.istore_n 2, 1) := by decide +kernel
theorem dX0_seaAt_2 : decode cX0_seaAt 2 = .ok (.iconst 0, 1) := by decide +kernel
theorem dX0_seaAt_3 : decode cX0_seaAt 3 = .ok (.istore_n 3, 1) := by decide +kernel
theorem dX0_seaAt_4 : decode cX0_seaAt 4 = .ok (.iload_n 3, 1) := by decide +kernel
theorem dX0_seaAt_5 : decode cX0_seaAt 5 = .ok (.aload_n 0, 1) := by decide +kernel
theorem dX0_seaAt_6 : decode cX0_seaAt 6 = .ok (.getfield 44, 3) := by decide +kernel
theorem dX0_seaAt_9 : decode cX0_seaAt 9 = .ok (.invokevirtual 125, 3) := by decide +kernel
theorem dX0_seaAt_12 : decode cX0_seaAt 12 = .ok (.if_icmp .ge 27, 3) := by decide +kernel
theorem dX0_seaAt_15 : decode cX0_seaAt 15 = .ok (.iload_n 2, 1) := by decide +kernel
theorem dX0_seaAt_16 : decode cX0_seaAt 16 = .ok (.aload_n 0, 1) := by decide +kernel
theorem dX0_seaAt_17 : decode cX0_seaAt 17 = .ok (.getfield 44, 3) := by decide +kernel
theorem dX0_seaAt_20 : decode cX0_seaAt 20 = .ok (.iload_n 3, 1) := by decide +kernel
theorem dX0_seaAt_21 : decode cX0_seaAt 21 = .ok (.invokevirtual 159, 3) := by decide +kernel
theorem dX0_seaAt_24 : decode cX0_seaAt 24 = .ok (.checkcast 248, 3) := by decide +kernel
theorem dX0_seaAt_27 : decode cX0_seaAt 27 = .ok (.iload_n 1, 1) := by decide +kernel
theorem dX0_seaAt_28 : decode cX0_seaAt 28 = .ok (.invokevirtual 251, 3) := by decide +kernel
theorem dX0_seaAt_31 : decode cX0_seaAt 31 = .ok (.iadd, 1) := by decide +kernel
theorem dX0_seaAt_32 : decode cX0_seaAt 32 = .ok (.istore_n 2, 1) := by decide +kernel
theorem dX0_seaAt_33 : decode cX0_seaAt 33 = .ok (.iinc 3 1, 3) := by decide +kernel
theorem dX0_seaAt_36 : decode cX0_seaAt 36 = .ok (.goto (-32), 3) := by decide +kernel
theorem dX0_seaAt_39 : decode cX0_seaAt 39 = .ok (.iload_n 2, 1) := by decide +kernel
theorem dX0_seaAt_40 : decode cX0_seaAt 40 = .ok (.ireturn, 1) := by decide +kernel
set_option maxHeartbeats 4000000 in
theorem cseaAt (l : Launch) (adK adV st : Nat → Nat) (D : va_G) (E : Nat → ClassId) (A : Nat → Prop) (ad nv : Nat → Nat) (I : Nat → Int) (F : Nat → Int → Int) (S : Nat → Nat → Int) (Y : Nat → Int → Int) (L : Nat → Nat) (t : Int) (ht : 0 ≤ t ∧ t ≤ 100000) (hn : cOK nv I L) (gs0 : gSea I F) : JM l yX0_seaAt cX0_seaAt 4 (some .int) (mrm 3) (CX adK adV st D E A ad nv I F S Y L) [.ref (ad 0), .int (iI t)] (vp_Si (fun r => r = iI (seaS (I 18) (F 19) (F 20) (F 21) t))) := by
  refine j_start (by decide) rfl (Nat.le_of_ble_eq_true rfl) ?_
  intro p e R s m args below meth c ls Q hR hQ hC hml hr hlk hB hl
  have hx := hC.1
  have hb := hC.2.1
  have hown := hC.2.2.1
  have hts := hC.2.2.2
  have hS : va_S A s.heap s.heap [] := va_S.rf
  have hK := hB.1
  have hG := hB.2.1
  have hE := hB.2.2
  have hCK : CK p m c _ s args _ D E := ⟨hx, hb, hown, hts, hK⟩
  have hl : lv_has ls 4 [(0, .ref (ad 0)), (1, .int (iI t))] := hl
  obtain ⟨⟨n0, n1, n2, n3⟩, ⟨l0, l1, l2, l3⟩, c0, c1, c2, c3⟩ := id hn
  obtain ⟨i18, a0, a19, a20, a21⟩ := id gs0
  refine r_iconst hx hb dX0_seaAt_0 ?_
  refine lv_istore_n (lv' := [(2, .int (iI 0)), (0, .ref (ad 0)), (1, .int (iI t))]) hx hb dX0_seaAt_1 rfl hl (by decide) rfl (fun ls hl => ?_)
  refine r_iconst hx hb dX0_seaAt_2 ?_
  refine lv_istore_n (lv' := [(3, .int (iI 0)), (2, .int (iI 0)), (0, .ref (ad 0)), (1, .int (iI t))]) hx hb dX0_seaAt_3 rfl hl (by decide) rfl (fun ls hl => ?_)
  have loop4_1 : ∀ (n : Nat) (x k : Int), I 18 - k < (n : Int) → x = sm (fun w => (F 19 w * sineS (F 20 w) (F 21 w) t).tdiv 1000) k → 0 ≤ k → k ≤ I 18 → ∀ (ls : Array Slot), lv_has ls 4 [(3, .int (iI k)), (2, .int (iI x)), (0, .ref (ad 0)), (1, .int (iI t))] → W p l e R s m args below meth c s.heap [] 0 0 Q (F0 m 4 ls []) := by
    intro n
    induction n with
    | zero => intro x k hn3 ex hk0 hk1; exfalso; omega
    | succ n ih2 =>
      intro x k hn3 ex hk0 hk1 ls hl
      refine lv_iload_n hx hb dX0_seaAt_4 rfl (lv_at hl 0 rfl) ?_
      refine lv_aload_n hx hb dX0_seaAt_5 rfl (lv_at hl 2 rfl) ?_
      refine cg_X0_44 hCK hG dX0_seaAt_6 ?_
      refine s_calli (j_runV (n := 0) (C := RJ2) (b := ad 14) (rest := [.int (iI k)]) (as := []) hx hb hml hown hts (lsz_14 l adK adV st D E A ad nv I F S Y L) GB.blind (GB.at hK hG hE hS) (g_rec (r := 14) (ci := 10) hK hG (Or.inl (by decide)) rfl (cC_l (by decide))) q641 q614 q615 q71 q616 (by decide +kernel) ⟨rfl, rfl⟩ hR (by decide) ⟨Nat.zero_le _, Nat.zero_le _⟩ rfl hl.1 rfl (Nat.le_of_ble_eq_true rfl) dX0_seaAt_9) ?_
      refine r_icmp_ge (tgt := 39) hx hb dX0_seaAt_12 (by decide) (by omega) (by omega) (fun c4 => ?_) (fun c4 => ?_)
      · have ek : k = I 18 := by omega
        refine lv_iload_n hx hb dX0_seaAt_39 rfl (lv_at hl 1 rfl) ?_
        exact j_iret hC hr hlk hQ dX0_seaAt_40 (by unfold seaS; rw [ex, ek])
      · refine lv_iload_n hx hb dX0_seaAt_15 rfl (lv_at hl 1 rfl) ?_
        refine lv_aload_n hx hb dX0_seaAt_16 rfl (lv_at hl 2 rfl) ?_
        refine cg_X0_44 hCK hG dX0_seaAt_17 ?_
        refine lv_iload_n hx hb dX0_seaAt_20 rfl (lv_at hl 0 rfl) ?_
        refine j_callr (j_runV (n := 1) (C := RJ2) (b := ad 14) (rest := [.int (iI x)]) (as := [.int (iI k)]) hx hb hml hown hts (lgt_14 l adK adV st D E A ad nv I F S Y L k (by omega) (by omega) (by omega)) GB.blind (GB.at hK hG hE hS) (g_rec (r := 14) (ci := 10) hK hG (Or.inl (by decide)) rfl (cC_l (by decide))) q703 q620 q621 q71 q622 (by decide +kernel) ⟨rfl, rfl⟩ hR (by decide) ⟨Nat.zero_le _, Nat.zero_le _⟩ rfl hl.1 rfl (Nat.le_of_ble_eq_true rfl) dX0_seaAt_21) ?_
        refine c_cast (r := 3400 + k.toNat) (ci := 6) hCK hG (by have := (show (0 : Int) ≤ k ∧ k < 100 by omega); unfold cV; omega) rfl (cC_wv (by have := (show (0 : Int) ≤ k ∧ k < 100 by omega); omega)) q801 dX0_seaAt_24 ?_
        refine lv_iload_n hx hb dX0_seaAt_27 rfl (lv_at hl 3 rfl) ?_
        refine s_calli (j_runV (n := 1) (C := RX6) (b := ad (3400 + k.toNat)) (rest := [.int (iI x)]) (as := [.int (iI t)]) hx hb hml hown hts (cwpush l adK adV st D E A ad nv I F S Y L k t (by omega) (by omega) gs0 (by omega)) GB.blind (GB.at hK hG hE hS) (g_rec (r := 3400 + k.toNat) (ci := 6) hK hG (by have := (show (0 : Int) ≤ k ∧ k < 100 by omega); unfold cV; omega) rfl (cC_wv (by have := (show (0 : Int) ≤ k ∧ k < 100 by omega); omega))) q826 q827 q828 q83 q829 (by decide +kernel) ⟨rfl, rfl⟩ hR (by decide) ⟨Nat.zero_le _, Nat.zero_le _⟩ rfl hl.1 rfl (Nat.le_of_ble_eq_true rfl) dX0_seaAt_28) ?_
        refine r_iadd hx hb dX0_seaAt_31 ?_
        refine lv_istore_n (lv' := [(2, .int (iI (x + ((F 19 k * sineS (F 20 k) (F 21 k) t).tdiv 1000)))), (3, .int (iI k)), (0, .ref (ad 0)), (1, .int (iI t))]) hx hb dX0_seaAt_32 rfl hl (by decide) rfl (fun ls hl => ?_)
        refine lv_iinc (v := iI (k + 1)) (lv' := [(3, .int (iI (k + 1))), (2, .int (iI (x + ((F 19 k * sineS (F 20 k) (F 21 k) t).tdiv 1000)))), (0, .ref (ad 0)), (1, .int (iI t))]) hx hb dX0_seaAt_33 hl (k := 1) rfl (iI_add _ _) (by decide) rfl (fun ls hl => ?_)
        refine lv_goto (tgt := 4) hx hb dX0_seaAt_36 (by decide) ?_
        exact ih2 (x + ((F 19 k * sineS (F 20 k) (F 21 k) t).tdiv 1000)) (k + 1) (by omega) (by rw [ex, sm_s _ hk0]) (by omega) (by omega) _ (lv_sub hl [0, 1, 2, 3] rfl)
  exact loop4_1 ((I 18 - 0 : Int).toNat + 1) 0 0 (by omega) rfl (by omega) (by omega) _ (lv_sub hl [0, 1, 2, 3] rfl)
theorem dX0_sea_0 : decode cX0_sea 0 = .ok (.iload_n 1, 1) := by decide +kernel
theorem dX0_sea_1 : decode cX0_sea 1 = .ok (.i2l, 1) := by decide +kernel
theorem dX0_sea_2 : decode cX0_sea 2 = .ok (.lconst 0, 1) := by decide +kernel
theorem dX0_sea_3 : decode cX0_sea 3 = .ok (.ldc2_w 253, 3) := by decide +kernel
theorem dX0_sea_6 : decode cX0_sea 6 = .ok (.invokestatic 101, 3) := by decide +kernel
theorem dX0_sea_9 : decode cX0_sea 9 = .ok (.ifCond .eq 11, 3) := by decide +kernel
theorem dX0_sea_12 : decode cX0_sea 12 = .ok (.aload_n 0, 1) := by decide +kernel
theorem dX0_sea_13 : decode cX0_sea 13 = .ok (.iload_n 1, 1) := by decide +kernel
theorem dX0_sea_14 : decode cX0_sea 14 = .ok (.invokevirtual 255, 3) := by decide +kernel
theorem dX0_sea_17 : decode cX0_sea 17 = .ok (.goto 5, 3) := by decide +kernel
theorem dX0_sea_20 : decode cX0_sea 20 = .ok (.ldc 206, 2) := by decide +kernel
theorem dX0_sea_22 : decode cX0_sea 22 = .ok (.ireturn, 1) := by decide +kernel
set_option maxHeartbeats 4000000 in
theorem csea (l : Launch) (adK adV st : Nat → Nat) (D : va_G) (E : Nat → ClassId) (A : Nat → Prop) (ad nv : Nat → Nat) (I : Nat → Int) (F : Nat → Int → Int) (S : Nat → Nat → Int) (Y : Nat → Int → Int) (L : Nat → Nat) (t : Int) (r_t : R32 t) (hn : cOK nv I L) (gs0 : gSea I F) : JM l yX0_sea cX0_sea 2 (some .int) (mrm 4) (CX adK adV st D E A ad nv I F S Y L) [.ref (ad 0), .int (iI t)] (vp_Si (fun r => r = iI (if 0 ≤ t ∧ t ≤ 599 then seaS (I 18) (F 19) (F 20) (F 21) t else -2147483648))) := by
  refine j_start (by decide) rfl (Nat.le_of_ble_eq_true rfl) ?_
  intro p e R s m args below meth c ls Q hR hQ hC hml hr hlk hB hl
  have hx := hC.1
  have hb := hC.2.1
  have hown := hC.2.2.1
  have hts := hC.2.2.2
  have hS : va_S A s.heap s.heap [] := va_S.rf
  have hK := hB.1
  have hG := hB.2.1
  have hE := hB.2.2
  have hCK : CK p m c _ s args _ D E := ⟨hx, hb, hown, hts, hK⟩
  have hl : lv_has ls 2 [(0, .ref (ad 0)), (1, .int (iI t))] := hl
  refine lv_iload_n hx hb dX0_sea_0 rfl (lv_at hl 1 rfl) ?_
  refine r_i2l hx hb dX0_sea_1 (by omega) ?_
  refine r_lconst hx hb 0 dX0_sea_2 (by decide) ?_
  refine r_ldc2 hx hb 599 hown (hts _ q821) (by decide) dX0_sea_3 ?_
  refine s_calli (j_runS (n := 3) (rest := []) (as := [.long (iL t), .long (iL 0), .long (iL 599)]) hx hb hml hown hts ((cin l t 0 599 (by omega) (by decide) (by decide)).jm) (fun _ _ _ _ _ => trivial) (fun _ _ _ => trivial) q296 q297 q68 q298 (by decide +kernel) ⟨rfl, rfl⟩ hR (by decide) ⟨Nat.zero_le _, Nat.zero_le _⟩ rfl hl.1 rfl (Nat.le_of_ble_eq_true rfl) dX0_sea_6) ?_
  refine r_ifeqB (tgt := 20) hx hb dX0_sea_9 (by decide) (fun c1 => ?_) (fun c1 => ?_)
  · refine r_ldc hx hb (-2147483648) hown (hts _ q746) (by decide) dX0_sea_20 ?_
    exact j_iret hC hr hlk hQ dX0_sea_22 (by rw [if_neg (by omega)])
  · refine lv_aload_n hx hb dX0_sea_12 rfl (lv_at hl 0 rfl) ?_
    refine lv_iload_n hx hb dX0_sea_13 rfl (lv_at hl 1 rfl) ?_
    refine s_calli (j_runV (n := 1) (C := RX0) (b := ad 0) (rest := []) (as := [.int (iI t)]) hx hb hml hown hts (cseaAt l adK adV st D E A ad nv I F S Y L t (by omega) hn gs0) GB.blind (GB.at hK hG hE hS) (g_rec (r := 0) (ci := 0) hK hG (Or.inl (by decide)) rfl cC_0) q822 q824 qs23 q68 q825 (by decide +kernel) ⟨rfl, rfl⟩ hR (by decide) ⟨Nat.zero_le _, Nat.zero_le _⟩ rfl hl.1 rfl (Nat.le_of_ble_eq_true rfl) dX0_sea_14) ?_
    refine lv_goto (tgt := 22) hx hb dX0_sea_17 (by decide) ?_
    exact j_iret hC hr hlk hQ dX0_sea_22 (by rw [if_pos (by omega)])
