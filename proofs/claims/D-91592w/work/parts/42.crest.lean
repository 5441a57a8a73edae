/-! THE COMPONENT: rests, records, counts -/
set_option maxRecDepth 100000

theorem rstI_in (lv ar : Int → Int) (k : Int) : restI lv ar k = -1 ∨ (0 ≤ restI lv ar k ∧ restI lv ar k < 160 ∧ chgS lv ar (restI lv ar k) = true) := by
  unfold restI
  split
  · exact Or.inl rfl
  · rcases rstF_in (chg := chgS lv ar) 160 0 k (by decide) with q | q
    · exact Or.inl q
    · exact Or.inr ⟨q.1, by omega, q.2.2⟩
theorem rest_dv {lv ar : Int → Int} {k z : Int} (h : z = if restI lv ar k = -1 then -2147483648 else 2 * (restI lv ar k - 80) + (if 0 < ar (restI lv ar k + 1 - 80) then 1 else 0)) : (z = -2147483648 ∨ (-160 ≤ z ∧ z ≤ 160)) ∧ (z = -2147483648 → restS lv ar k = -2147483648 ∧ staysS lv ar k = -1) ∧ (z ≠ -2147483648 → restS lv ar k = z / 2 ∧ staysS lv ar k = z % 2) := by
  rcases rstI_in lv ar k with q | ⟨q1, q2, q3⟩
  · rw [if_pos q] at h
    refine ⟨Or.inl h, fun _ => ?_, fun c => absurd h c⟩
    unfold restS staysS
    rw [if_pos q, if_pos q]
    exact ⟨rfl, rfl⟩
  · rw [if_neg (by omega)] at h
    have hc := (of_decide_eq_true q3).2.2
    have hz : -160 ≤ z ∧ z ≤ 160 := by rw [h]; split <;> omega
    refine ⟨Or.inr hz, fun c => by omega, fun _ => ?_⟩
    unfold restS staysS
    rw [if_neg (by omega), if_neg (by omega), h]
    by_cases c1 : 0 < ar (restI lv ar k + 1 - 80)
    · rw [if_pos c1, if_neg (by omega)]
      omega
    · rw [if_neg c1, if_pos (by omega)]
      omega
theorem dX0_restAt_0 : decode cX0_restAt 0 = .ok (.iload_n 1, 1) := by decide +kernel
theorem dX0_restAt_1 : decode cX0_restAt 1 = .ok (.istore_n 2, 1) := by decide +kernel
theorem dX0_restAt_2 : decode cX0_restAt 2 = .ok (.aload_n 0, 1) := by decide +kernel
theorem dX0_restAt_3 : decode cX0_restAt 3 = .ok (.bipush (-80), 2) := by decide +kernel
theorem dX0_restAt_5 : decode cX0_restAt 5 = .ok (.iconst 2, 1) := by decide +kernel
theorem dX0_restAt_6 : decode cX0_restAt 6 = .ok (.invokevirtual 231, 3) := by decide +kernel
theorem dX0_restAt_9 : decode cX0_restAt 9 = .ok (.istore_n 3, 1) := by decide +kernel
theorem dX0_restAt_10 : decode cX0_restAt 10 = .ok (.bipush (-80), 2) := by decide +kernel
theorem dX0_restAt_12 : decode cX0_restAt 12 = .ok (.istore 4, 2) := by decide +kernel
theorem dX0_restAt_14 : decode cX0_restAt 14 = .ok (.iload 4, 2) := by decide +kernel
theorem dX0_restAt_16 : decode cX0_restAt 16 = .ok (.bipush 80, 2) := by decide +kernel
theorem dX0_restAt_18 : decode cX0_restAt 18 = .ok (.if_icmp .ge 102, 3) := by decide +kernel
theorem dX0_restAt_21 : decode cX0_restAt 21 = .ok (.iload_n 1, 1) := by decide +kernel
theorem dX0_restAt_22 : decode cX0_restAt 22 = .ok (.ifCond .lt 98, 3) := by decide +kernel
theorem dX0_restAt_25 : decode cX0_restAt 25 = .ok (.aload_n 0, 1) := by decide +kernel
theorem dX0_restAt_26 : decode cX0_restAt 26 = .ok (.iload 4, 2) := by decide +kernel
theorem dX0_restAt_28 : decode cX0_restAt 28 = .ok (.iconst 1, 1) := by decide +kernel
theorem dX0_restAt_29 : decode cX0_restAt 29 = .ok (.iadd, 1) := by decide +kernel
theorem dX0_restAt_30 : decode cX0_restAt 30 = .ok (.iconst 2, 1) := by decide +kernel
theorem dX0_restAt_31 : decode cX0_restAt 31 = .ok (.invokevirtual 231, 3) := by decide +kernel
theorem dX0_restAt_34 : decode cX0_restAt 34 = .ok (.istore 5, 2) := by decide +kernel
theorem dX0_restAt_36 : decode cX0_restAt 36 = .ok (.iload_n 3, 1) := by decide +kernel
theorem dX0_restAt_37 : decode cX0_restAt 37 = .ok (.ldc 206, 2) := by decide +kernel
theorem dX0_restAt_39 : decode cX0_restAt 39 = .ok (.if_icmp .eq 36, 3) := by decide +kernel
theorem dX0_restAt_42 : decode cX0_restAt 42 = .ok (.iload 5, 2) := by decide +kernel
theorem dX0_restAt_44 : decode cX0_restAt 44 = .ok (.ldc 206, 2) := by decide +kernel
theorem dX0_restAt_46 : decode cX0_restAt 46 = .ok (.if_icmp .eq 29, 3) := by decide +kernel
theorem dX0_restAt_49 : decode cX0_restAt 49 = .ok (.iload_n 3, 1) := by decide +kernel
theorem dX0_restAt_50 : decode cX0_restAt 50 = .ok (.ifCond .gt 7, 3) := by decide +kernel
theorem dX0_restAt_53 : decode cX0_restAt 53 = .ok (.iconst 1, 1) := by decide +kernel
theorem dX0_restAt_54 : decode cX0_restAt 54 = .ok (.goto 4, 3) := by decide +kernel
theorem dX0_restAt_57 : decode cX0_restAt 57 = .ok (.iconst 0, 1) := by decide +kernel
theorem dX0_restAt_58 : decode cX0_restAt 58 = .ok (.iload 5, 2) := by decide +kernel
theorem dX0_restAt_60 : decode cX0_restAt 60 = .ok (.ifCond .gt 7, 3) := by decide +kernel
theorem dX0_restAt_63 : decode cX0_restAt 63 = .ok (.iconst 1, 1) := by decide +kernel
theorem dX0_restAt_64 : decode cX0_restAt 64 = .ok (.goto 4, 3) := by decide +kernel
theorem dX0_restAt_67 : decode cX0_restAt 67 = .ok (.iconst 0, 1) := by decide +kernel
theorem dX0_restAt_68 : decode cX0_restAt 68 = .ok (.if_icmp .eq 7, 3) := by decide +kernel
theorem dX0_restAt_71 : decode cX0_restAt 71 = .ok (.iconst 1, 1) := by decide +kernel
theorem dX0_restAt_72 : decode cX0_restAt 72 = .ok (.goto 4, 3) := by decide +kernel
theorem dX0_restAt_75 : decode cX0_restAt 75 = .ok (.iconst 0, 1) := by decide +kernel
theorem dX0_restAt_76 : decode cX0_restAt 76 = .ok (.istore 6, 2) := by decide +kernel
theorem dX0_restAt_78 : decode cX0_restAt 78 = .ok (.iload 6, 2) := by decide +kernel
theorem dX0_restAt_80 : decode cX0_restAt 80 = .ok (.ifCond .eq 23, 3) := by decide +kernel
theorem dX0_restAt_83 : decode cX0_restAt 83 = .ok (.iload_n 2, 1) := by decide +kernel
theorem dX0_restAt_84 : decode cX0_restAt 84 = .ok (.ifCond .ne 19, 3) := by decide +kernel
theorem dX0_restAt_87 : decode cX0_restAt 87 = .ok (.iconst 2, 1) := by decide +kernel
theorem dX0_restAt_88 : decode cX0_restAt 88 = .ok (.iload 4, 2) := by decide +kernel
theorem dX0_restAt_90 : decode cX0_restAt 90 = .ok (.imul, 1) := by decide +kernel
theorem dX0_restAt_91 : decode cX0_restAt 91 = .ok (.iload 5, 2) := by decide +kernel
theorem dX0_restAt_93 : decode cX0_restAt 93 = .ok (.ifCond .le 7, 3) := by decide +kernel
theorem dX0_restAt_96 : decode cX0_restAt 96 = .ok (.iconst 1, 1) := by decide +kernel
theorem dX0_restAt_97 : decode cX0_restAt 97 = .ok (.goto 4, 3) := by decide +kernel
theorem dX0_restAt_100 : decode cX0_restAt 100 = .ok (.iconst 0, 1) := by decide +kernel
theorem dX0_restAt_101 : decode cX0_restAt 101 = .ok (.iadd, 1) := by decide +kernel
theorem dX0_restAt_102 : decode cX0_restAt 102 = .ok (.ireturn, 1) := by decide +kernel
theorem dX0_restAt_103 : decode cX0_restAt 103 = .ok (.iload 6, 2) := by decide +kernel
theorem dX0_restAt_105 : decode cX0_restAt 105 = .ok (.ifCond .eq 6, 3) := by decide +kernel
theorem dX0_restAt_108 : decode cX0_restAt 108 = .ok (.iinc 2 (-1), 3) := by decide +kernel
theorem dX0_restAt_111 : decode cX0_restAt 111 = .ok (.iload 5, 2) := by decide +kernel
theorem dX0_restAt_113 : decode cX0_restAt 113 = .ok (.istore_n 3, 1) := by decide +kernel
theorem dX0_restAt_114 : decode cX0_restAt 114 = .ok (.iinc 4 1, 3) := by decide +kernel
theorem dX0_restAt_117 : decode cX0_restAt 117 = .ok (.goto (-103), 3) := by decide +kernel
theorem dX0_restAt_120 : decode cX0_restAt 120 = .ok (.ldc 206, 2) := by decide +kernel
theorem dX0_restAt_122 : decode cX0_restAt 122 = .ok (.ireturn, 1) := by decide +kernel
set_option maxHeartbeats 4000000 in
theorem crestAt (l : Launch) (adK adV st : Nat → Nat) (D : va_G) (E : Nat → ClassId) (A : Nat → Prop) (ad nv : Nat → Nat) (I : Nat → Int) (F : Nat → Int → Int) (S : Nat → Nat → Int) (Y : Nat → Int → Int) (L : Nat → Nat) (kk : Int) (pl : Int → Int) (epl : ∀ w, 0 ≤ w → w < I 4 → Y 21 w = pl w) (gp0 : Bd pl 12 (-19) 19) (r_k : R32 kk) (hn : cOK nv I L) (gh0 : gHull I F) (gl0 : gLoad I F) : JM l yX0_restAt cX0_restAt 7 (some .int) (mrm 6) (CX adK adV st D E A ad nv I F S Y L) [.ref (ad 0), .int (iI kk)] (vp_Si (fun r => r = iI ((if restI (lvF (I 1) (F 2) (F 3) (heavyS (I 4) (F 9) (F 5) (I 10) (F 14))) (arF (I 1) (F 2) (F 3) (heavyS (I 4) (F 9) (F 5) (I 10) (F 14)) (downS (I 4) (F 9) (F 5) pl (F 7) (I 10) (F 14) (F 13) (F 11) (F 12))) kk = -1 then -2147483648 else 2 * (restI (lvF (I 1) (F 2) (F 3) (heavyS (I 4) (F 9) (F 5) (I 10) (F 14))) (arF (I 1) (F 2) (F 3) (heavyS (I 4) (F 9) (F 5) (I 10) (F 14)) (downS (I 4) (F 9) (F 5) pl (F 7) (I 10) (F 14) (F 13) (F 11) (F 12))) kk - 80) + (if 0 < (arF (I 1) (F 2) (F 3) (heavyS (I 4) (F 9) (F 5) (I 10) (F 14)) (downS (I 4) (F 9) (F 5) pl (F 7) (I 10) (F 14) (F 13) (F 11) (F 12))) (restI (lvF (I 1) (F 2) (F 3) (heavyS (I 4) (F 9) (F 5) (I 10) (F 14))) (arF (I 1) (F 2) (F 3) (heavyS (I 4) (F 9) (F 5) (I 10) (F 14)) (downS (I 4) (F 9) (F 5) pl (F 7) (I 10) (F 14) (F 13) (F 11) (F 12))) kk + 1 - 80) then 1 else 0))))) := by
  refine j_start (by decide) rfl (Nat.le_of_ble_eq_true rfl) ?_
  intro p e R s m args below meth c ls Q hR hQ hC hml hr hlk hB hl
  have hx := hC.1
  have hb := hC.2.1
  have hown := hC.2.2.1
  have hts := hC.2.2.2
  have hS : va_S A s.heap s.heap [] := va_S.rf
  have hK := hB.1
  have hG := hB.2.1
  have hE := hB.2.2
  have hCK : CK p m c _ s args _ D E := ⟨hx, hb, hown, hts, hK⟩
  have hl : lv_has ls 7 [(0, .ref (ad 0)), (1, .int (iI kk))] := hl
  obtain ⟨i1, a2, a3⟩ := id gh0
  obtain ⟨i4, a5, a6, a7, a8, a9, i10, a11, a12, a13, a14, a14h⟩ := id gl0
  have hhv := heavyS_bd (lost := F 9) i4 i10 a5 a14
  have hpb : ∀ sl y, 0 ≤ pushS (I 1) (F 2) (F 3) sl y ∧ pushS (I 1) (F 2) (F 3) sl y ≤ 21600 := fun sl y => pushS_bd sl y i1 a2 a3
  have hub : ∀ sl y, -80 ≤ sl ∧ sl ≤ 80 → -69552000 ≤ upS (I 1) (F 2) (F 3) sl y ∧ upS (I 1) (F 2) (F 3) sl y ≤ 69552000 := fun sl y q => upS_bd y q i1 a2 a3
  have hat : ∀ x, -80 ≤ x → x ≤ 80 → ((lvF (I 1) (F 2) (F 3) (heavyS (I 4) (F 9) (F 5) (I 10) (F 14))) x = -2147483648 ∧ atS (lvF (I 1) (F 2) (F 3) (heavyS (I 4) (F 9) (F 5) (I 10) (F 14))) (fun sl => pushS (I 1) (F 2) (F 3) sl ((lvF (I 1) (F 2) (F 3) (heavyS (I 4) (F 9) (F 5) (I 10) (F 14))) sl)) (arF (I 1) (F 2) (F 3) (heavyS (I 4) (F 9) (F 5) (I 10) (F 14)) (downS (I 4) (F 9) (F 5) pl (F 7) (I 10) (F 14) (F 13) (F 11) (F 12))) x 2 = -2147483648) ∨ ((lvF (I 1) (F 2) (F 3) (heavyS (I 4) (F 9) (F 5) (I 10) (F 14))) x ≠ -2147483648 ∧ atS (lvF (I 1) (F 2) (F 3) (heavyS (I 4) (F 9) (F 5) (I 10) (F 14))) (fun sl => pushS (I 1) (F 2) (F 3) sl ((lvF (I 1) (F 2) (F 3) (heavyS (I 4) (F 9) (F 5) (I 10) (F 14))) sl)) (arF (I 1) (F 2) (F 3) (heavyS (I 4) (F 9) (F 5) (I 10) (F 14)) (downS (I 4) (F 9) (F 5) pl (F 7) (I 10) (F 14) (F 13) (F 11) (F 12))) x 2 = (arF (I 1) (F 2) (F 3) (heavyS (I 4) (F 9) (F 5) (I 10) (F 14)) (downS (I 4) (F 9) (F 5) pl (F 7) (I 10) (F 14) (F 13) (F 11) (F 12))) x ∧ -144024000 ≤ (arF (I 1) (F 2) (F 3) (heavyS (I 4) (F 9) (F 5) (I 10) (F 14)) (downS (I 4) (F 9) (F 5) pl (F 7) (I 10) (F 14) (F 13) (F 11) (F 12))) x ∧ (arF (I 1) (F 2) (F 3) (heavyS (I 4) (F 9) (F 5) (I 10) (F 14)) (downS (I 4) (F 9) (F 5) pl (F 7) (I 10) (F 14) (F 13) (F 11) (F 12))) x ≤ 144024000) := by
    intro x x0 x1
    by_cases cl : (lvF (I 1) (F 2) (F 3) (heavyS (I 4) (F 9) (F 5) (I 10) (F 14))) x = -2147483648
    · exact Or.inl ⟨cl, by unfold atS; rw [if_pos (by omega), if_pos cl]⟩
    · exact Or.inr ⟨cl, by unfold atS; rw [if_pos (by omega), if_neg cl, if_neg (by decide), if_neg (by decide)], arF_bd (down := (downS (I 4) (F 9) (F 5) pl (F 7) (I 10) (F 14) (F 13) (F 11) (F 12))) (sl := x) ⟨x0, x1⟩ i1 a2 a3 (by omega) (downS_bd ⟨x0, x1⟩ i4 i10 a5 gp0 a7 a14 a11 a12) cl⟩
  refine lv_iload_n hx hb dX0_restAt_0 rfl (lv_at hl 1 rfl) ?_
  refine lv_istore_n (lv' := [(2, .int (iI kk)), (0, .ref (ad 0)), (1, .int (iI kk))]) hx hb dX0_restAt_1 rfl hl (by decide) rfl (fun ls hl => ?_)
  refine lv_aload_n hx hb dX0_restAt_2 rfl (lv_at hl 1 rfl) ?_
  refine r_bipush hx hb dX0_restAt_3 (by decide) ?_
  refine r_iconst hx hb dX0_restAt_5 ?_
  refine s_calli (j_runV (n := 2) (C := RX0) (b := ad 0) (rest := []) (as := [.int (iI (-80)), .int (iI 2)]) hx hb hml hown hts (cat_ l adK adV st D E A ad nv I F S Y L (-80) 2 pl epl gp0 (by decide) (by decide) hn gh0 gl0) GB.blind (GB.at hK hG hE hS) (g_rec (r := 0) (ci := 0) hK hG (Or.inl (by decide)) rfl cC_0) q785 q741 q742 q68 q743 (by decide +kernel) ⟨rfl, rfl⟩ hR (by decide) ⟨Nat.zero_le _, Nat.zero_le _⟩ rfl hl.1 rfl (Nat.le_of_ble_eq_true rfl) dX0_restAt_6) ?_
  refine lv_istore_n (lv' := [(3, .int (iI (atS (lvF (I 1) (F 2) (F 3) (heavyS (I 4) (F 9) (F 5) (I 10) (F 14))) (fun sl => pushS (I 1) (F 2) (F 3) sl ((lvF (I 1) (F 2) (F 3) (heavyS (I 4) (F 9) (F 5) (I 10) (F 14))) sl)) (arF (I 1) (F 2) (F 3) (heavyS (I 4) (F 9) (F 5) (I 10) (F 14)) (downS (I 4) (F 9) (F 5) pl (F 7) (I 10) (F 14) (F 13) (F 11) (F 12))) (-80) 2))), (2, .int (iI kk)), (0, .ref (ad 0)), (1, .int (iI kk))]) hx hb dX0_restAt_9 rfl hl (by decide) rfl (fun ls hl => ?_)
  refine r_bipush hx hb dX0_restAt_10 (by decide) ?_
  refine lv_istore (lv' := [(4, .int (iI (-80))), (3, .int (iI (atS (lvF (I 1) (F 2) (F 3) (heavyS (I 4) (F 9) (F 5) (I 10) (F 14))) (fun sl => pushS (I 1) (F 2) (F 3) sl ((lvF (I 1) (F 2) (F 3) (heavyS (I 4) (F 9) (F 5) (I 10) (F 14))) sl)) (arF (I 1) (F 2) (F 3) (heavyS (I 4) (F 9) (F 5) (I 10) (F 14)) (downS (I 4) (F 9) (F 5) pl (F 7) (I 10) (F 14) (F 13) (F 11) (F 12))) (-80) 2))), (2, .int (iI kk)), (0, .ref (ad 0)), (1, .int (iI kk))]) hx hb dX0_restAt_12 hl (by decide) rfl (fun ls hl => ?_)
  have loop14_1 : ∀ (n : Nat) (lf b0 xx : Int), 80 - xx < (n : Int) → b0 = atS (lvF (I 1) (F 2) (F 3) (heavyS (I 4) (F 9) (F 5) (I 10) (F 14))) (fun sl => pushS (I 1) (F 2) (F 3) sl ((lvF (I 1) (F 2) (F 3) (heavyS (I 4) (F 9) (F 5) (I 10) (F 14))) sl)) (arF (I 1) (F 2) (F 3) (heavyS (I 4) (F 9) (F 5) (I 10) (F 14)) (downS (I 4) (F 9) (F 5) pl (F 7) (I 10) (F 14) (F 13) (F 11) (F 12))) xx 2 → -80 ≤ xx → xx ≤ 80 → (0 ≤ kk → rstF (chgS (lvF (I 1) (F 2) (F 3) (heavyS (I 4) (F 9) (F 5) (I 10) (F 14))) (arF (I 1) (F 2) (F 3) (heavyS (I 4) (F 9) (F 5) (I 10) (F 14)) (downS (I 4) (F 9) (F 5) pl (F 7) (I 10) (F 14) (F 13) (F 11) (F 12)))) (160 - (xx + 80)).toNat (xx + 80) lf = restI (lvF (I 1) (F 2) (F 3) (heavyS (I 4) (F 9) (F 5) (I 10) (F 14))) (arF (I 1) (F 2) (F 3) (heavyS (I 4) (F 9) (F 5) (I 10) (F 14)) (downS (I 4) (F 9) (F 5) pl (F 7) (I 10) (F 14) (F 13) (F 11) (F 12))) kk) → (kk < 0 → xx = -80) → lf ≤ kk → kk - (xx + 80) ≤ lf → ∀ (ls : Array Slot), lv_has ls 7 [(4, .int (iI xx)), (3, .int (iI b0)), (2, .int (iI lf)), (0, .ref (ad 0)), (1, .int (iI kk))] → W p l e R s m args below meth c s.heap [] 0 0 Q (F0 m 14 ls []) := by
    intro n
    induction n with
    | zero => intro lf b0 xx hn3 eb hx0 hx1 er hneg hl0 hl1; exfalso; omega
    | succ n ih2 =>
      intro lf b0 xx hn3 eb hx0 hx1 er hneg hl0 hl1 ls hl
      have hb1 := hat xx (by omega) (by omega)
      rw [← eb] at hb1
      refine lv_iload hx hb dX0_restAt_14 (lv_at hl 0 rfl) ?_
      refine r_bipush hx hb dX0_restAt_16 (by decide) ?_
      refine r_icmp_ge (tgt := 120) hx hb dX0_restAt_18 (by decide) (by omega) (by decide) (fun c4 => ?_) (fun c4 => ?_)
      · refine r_ldc hx hb (-2147483648) hown (hts _ q746) (by decide) dX0_restAt_120 ?_
        exact j_iret hC hr hlk hQ dX0_restAt_122 (by rw [if_pos (by rw [← er (by omega), show (160 - (xx + 80)).toNat = 0 by omega]; rfl)])
      · refine lv_iload_n hx hb dX0_restAt_21 rfl (lv_at hl 4 rfl) ?_
        refine r_if_lt (tgt := 120) hx hb dX0_restAt_22 (by decide) (by omega) (fun cneg => ?_) (fun cneg => ?_)
        · refine r_ldc hx hb (-2147483648) hown (hts _ q746) (by decide) dX0_restAt_120 ?_
          exact j_iret hC hr hlk hQ dX0_restAt_122 (by rw [if_pos (show restI (lvF (I 1) (F 2) (F 3) (heavyS (I 4) (F 9) (F 5) (I 10) (F 14))) (arF (I 1) (F 2) (F 3) (heavyS (I 4) (F 9) (F 5) (I 10) (F 14)) (downS (I 4) (F 9) (F 5) pl (F 7) (I 10) (F 14) (F 13) (F 11) (F 12))) kk = -1 from if_pos cneg)])
        · have er1 := er (by omega)
          have hb2 := hat (xx + 1) (by omega) (by omega)
          refine lv_aload_n hx hb dX0_restAt_25 rfl (lv_at hl 3 rfl) ?_
          refine lv_iload hx hb dX0_restAt_26 (lv_at hl 0 rfl) ?_
          refine r_iconst hx hb dX0_restAt_28 ?_
          refine r_iadd hx hb dX0_restAt_29 ?_
          refine r_iconst hx hb dX0_restAt_30 ?_
          refine s_calli (j_runV (n := 2) (C := RX0) (b := ad 0) (rest := []) (as := [.int (iI (xx + 1)), .int (iI 2)]) hx hb hml hown hts (cat_ l adK adV st D E A ad nv I F S Y L (xx + 1) 2 pl epl gp0 (by omega) (by decide) hn gh0 gl0) GB.blind (GB.at hK hG hE hS) (g_rec (r := 0) (ci := 0) hK hG (Or.inl (by decide)) rfl cC_0) q785 q741 q742 q68 q743 (by decide +kernel) ⟨rfl, rfl⟩ hR (by decide) ⟨Nat.zero_le _, Nat.zero_le _⟩ rfl hl.1 rfl (Nat.le_of_ble_eq_true rfl) dX0_restAt_31) ?_
          obtain ⟨bh, h_bh⟩ : ∃ x : Int, x = atS (lvF (I 1) (F 2) (F 3) (heavyS (I 4) (F 9) (F 5) (I 10) (F 14))) (fun sl => pushS (I 1) (F 2) (F 3) sl ((lvF (I 1) (F 2) (F 3) (heavyS (I 4) (F 9) (F 5) (I 10) (F 14))) sl)) (arF (I 1) (F 2) (F 3) (heavyS (I 4) (F 9) (F 5) (I 10) (F 14)) (downS (I 4) (F 9) (F 5) pl (F 7) (I 10) (F 14) (F 13) (F 11) (F 12))) (xx + 1) 2 := ⟨_, rfl⟩
          refine W.eq (g2 := F0 m 34 ls [.int (iI bh)]) (by subst h_bh; rfl) ?_
          rw [← h_bh] at hb2
          refine lv_istore (lv' := [(5, .int (iI bh)), (4, .int (iI xx)), (3, .int (iI b0)), (2, .int (iI lf)), (0, .ref (ad 0)), (1, .int (iI kk))]) hx hb dX0_restAt_34 hl (by decide) rfl (fun ls hl => ?_)
          refine lv_iload_n hx hb dX0_restAt_36 rfl (lv_at hl 2 rfl) ?_
          refine r_ldc hx hb (-2147483648) hown (hts _ q746) (by decide) dX0_restAt_37 ?_
          refine r_icmp_eq (tgt := 75) hx hb dX0_restAt_39 (by decide) (by omega) (by decide) (fun cv1 => ?_) (fun cv1 => ?_)
          · refine r_iconst hx hb dX0_restAt_75 ?_
            refine lv_istore (lv' := [(6, .int (iI 0)), (5, .int (iI bh)), (4, .int (iI xx)), (3, .int (iI b0)), (2, .int (iI lf)), (0, .ref (ad 0)), (1, .int (iI kk))]) hx hb dX0_restAt_76 hl (by decide) rfl (fun ls hl => ?_)
            refine lv_iload hx hb dX0_restAt_78 (lv_at hl 0 rfl) ?_
            refine r_if_eq (tgt := 103) hx hb dX0_restAt_80 (by decide) (by decide) (fun c5 => ?_) (fun c5 => absurd c5 (by decide))
            refine lv_iload hx hb dX0_restAt_103 (lv_at hl 0 rfl) ?_
            refine r_if_eq (tgt := 111) hx hb dX0_restAt_105 (by decide) (by decide) (fun c6 => ?_) (fun c6 => absurd c6 (by decide))
            refine lv_iload hx hb dX0_restAt_111 (lv_at hl 1 rfl) ?_
            refine lv_istore_n (lv' := [(3, .int (iI bh)), (6, .int (iI 0)), (5, .int (iI bh)), (4, .int (iI xx)), (2, .int (iI lf)), (0, .ref (ad 0)), (1, .int (iI kk))]) hx hb dX0_restAt_113 rfl hl (by decide) rfl (fun ls hl => ?_)
            refine lv_iinc (v := iI (xx + 1)) (lv' := [(4, .int (iI (xx + 1))), (3, .int (iI bh)), (6, .int (iI 0)), (5, .int (iI bh)), (2, .int (iI lf)), (0, .ref (ad 0)), (1, .int (iI kk))]) hx hb dX0_restAt_114 hl (k := 3) rfl (iI_add _ _) (by decide) rfl (fun ls hl => ?_)
            refine lv_goto (tgt := 14) hx hb dX0_restAt_117 (by decide) ?_
            exact ih2 lf bh (xx + 1) (by omega) (by rw [h_bh]) (by omega) (by omega) (fun q => by rw [← er1, rstF_s (i := xx + 80) (by omega), if_neg (show ¬ chgS (lvF (I 1) (F 2) (F 3) (heavyS (I 4) (F 9) (F 5) (I 10) (F 14))) (arF (I 1) (F 2) (F 3) (heavyS (I 4) (F 9) (F 5) (I 10) (F 14)) (downS (I 4) (F 9) (F 5) pl (F 7) (I 10) (F 14) (F 13) (F 11) (F 12))) (xx + 80) = true from fun q => (of_decide_eq_true q).1 (by rw [show xx + 80 - 80 = xx by omega]; rcases hb1 with q | q; exact q.1; omega)), show xx + 80 + 1 = xx + 1 + 80 by omega]) (fun q => by omega) (by omega) (by omega) _ (lv_sub hl [0, 1, 4, 5, 6] rfl)
          · refine lv_iload hx hb dX0_restAt_42 (lv_at hl 0 rfl) ?_
            refine r_ldc hx hb (-2147483648) hown (hts _ q746) (by decide) dX0_restAt_44 ?_
            refine r_icmp_eq (tgt := 75) hx hb dX0_restAt_46 (by decide) (by omega) (by decide) (fun cv2 => ?_) (fun cv2 => ?_)
            · refine r_iconst hx hb dX0_restAt_75 ?_
              refine lv_istore (lv' := [(6, .int (iI 0)), (5, .int (iI bh)), (4, .int (iI xx)), (3, .int (iI b0)), (2, .int (iI lf)), (0, .ref (ad 0)), (1, .int (iI kk))]) hx hb dX0_restAt_76 hl (by decide) rfl (fun ls hl => ?_)
              refine lv_iload hx hb dX0_restAt_78 (lv_at hl 0 rfl) ?_
              refine r_if_eq (tgt := 103) hx hb dX0_restAt_80 (by decide) (by decide) (fun c7 => ?_) (fun c7 => absurd c7 (by decide))
              refine lv_iload hx hb dX0_restAt_103 (lv_at hl 0 rfl) ?_
              refine r_if_eq (tgt := 111) hx hb dX0_restAt_105 (by decide) (by decide) (fun c8 => ?_) (fun c8 => absurd c8 (by decide))
              refine lv_iload hx hb dX0_restAt_111 (lv_at hl 1 rfl) ?_
              refine lv_istore_n (lv' := [(3, .int (iI bh)), (6, .int (iI 0)), (5, .int (iI bh)), (4, .int (iI xx)), (2, .int (iI lf)), (0, .ref (ad 0)), (1, .int (iI kk))]) hx hb dX0_restAt_113 rfl hl (by decide) rfl (fun ls hl => ?_)
              refine lv_iinc (v := iI (xx + 1)) (lv' := [(4, .int (iI (xx + 1))), (3, .int (iI bh)), (6, .int (iI 0)), (5, .int (iI bh)), (2, .int (iI lf)), (0, .ref (ad 0)), (1, .int (iI kk))]) hx hb dX0_restAt_114 hl (k := 3) rfl (iI_add _ _) (by decide) rfl (fun ls hl => ?_)
              refine lv_goto (tgt := 14) hx hb dX0_restAt_117 (by decide) ?_
              exact ih2 lf bh (xx + 1) (by omega) (by rw [h_bh]) (by omega) (by omega) (fun q => by rw [← er1, rstF_s (i := xx + 80) (by omega), if_neg (show ¬ chgS (lvF (I 1) (F 2) (F 3) (heavyS (I 4) (F 9) (F 5) (I 10) (F 14))) (arF (I 1) (F 2) (F 3) (heavyS (I 4) (F 9) (F 5) (I 10) (F 14)) (downS (I 4) (F 9) (F 5) pl (F 7) (I 10) (F 14) (F 13) (F 11) (F 12))) (xx + 80) = true from fun q => (of_decide_eq_true q).2.1 (by rw [show xx + 80 + 1 - 80 = xx + 1 by omega]; rcases hb2 with q | q; exact q.1; omega)), show xx + 80 + 1 = xx + 1 + 80 by omega]) (fun q => by omega) (by omega) (by omega) _ (lv_sub hl [0, 1, 4, 5, 6] rfl)
            · refine lv_iload_n hx hb dX0_restAt_49 rfl (lv_at hl 2 rfl) ?_
              refine r_if_gt (tgt := 57) hx hb dX0_restAt_50 (by decide) (by omega) (fun c9 => ?_) (fun c9 => ?_)
              · refine r_iconst hx hb dX0_restAt_57 ?_
                refine lv_iload hx hb dX0_restAt_58 (lv_at hl 0 rfl) ?_
                refine r_if_gt (tgt := 67) hx hb dX0_restAt_60 (by decide) (by omega) (fun c10 => ?_) (fun c10 => ?_)
                · refine r_iconst hx hb dX0_restAt_67 ?_
                  refine r_icmp_eq (tgt := 75) hx hb dX0_restAt_68 (by decide) (by decide) (by decide) (fun c11 => ?_) (fun c11 => absurd c11 (by decide))
                  refine r_iconst hx hb dX0_restAt_75 ?_
                  refine lv_istore (lv' := [(6, .int (iI 0)), (5, .int (iI bh)), (4, .int (iI xx)), (3, .int (iI b0)), (2, .int (iI lf)), (0, .ref (ad 0)), (1, .int (iI kk))]) hx hb dX0_restAt_76 hl (by decide) rfl (fun ls hl => ?_)
                  refine lv_iload hx hb dX0_restAt_78 (lv_at hl 0 rfl) ?_
                  refine r_if_eq (tgt := 103) hx hb dX0_restAt_80 (by decide) (by decide) (fun c12 => ?_) (fun c12 => absurd c12 (by decide))
                  refine lv_iload hx hb dX0_restAt_103 (lv_at hl 0 rfl) ?_
                  refine r_if_eq (tgt := 111) hx hb dX0_restAt_105 (by decide) (by decide) (fun c13 => ?_) (fun c13 => absurd c13 (by decide))
                  refine lv_iload hx hb dX0_restAt_111 (lv_at hl 1 rfl) ?_
                  refine lv_istore_n (lv' := [(3, .int (iI bh)), (6, .int (iI 0)), (5, .int (iI bh)), (4, .int (iI xx)), (2, .int (iI lf)), (0, .ref (ad 0)), (1, .int (iI kk))]) hx hb dX0_restAt_113 rfl hl (by decide) rfl (fun ls hl => ?_)
                  refine lv_iinc (v := iI (xx + 1)) (lv' := [(4, .int (iI (xx + 1))), (3, .int (iI bh)), (6, .int (iI 0)), (5, .int (iI bh)), (2, .int (iI lf)), (0, .ref (ad 0)), (1, .int (iI kk))]) hx hb dX0_restAt_114 hl (k := 3) rfl (iI_add _ _) (by decide) rfl (fun ls hl => ?_)
                  refine lv_goto (tgt := 14) hx hb dX0_restAt_117 (by decide) ?_
                  exact ih2 lf bh (xx + 1) (by omega) (by rw [h_bh]) (by omega) (by omega) (fun q => by rw [← er1, rstF_s (i := xx + 80) (by omega), if_neg (show ¬ chgS (lvF (I 1) (F 2) (F 3) (heavyS (I 4) (F 9) (F 5) (I 10) (F 14))) (arF (I 1) (F 2) (F 3) (heavyS (I 4) (F 9) (F 5) (I 10) (F 14)) (downS (I 4) (F 9) (F 5) pl (F 7) (I 10) (F 14) (F 13) (F 11) (F 12))) (xx + 80) = true from fun q => (of_decide_eq_true q).2.2 (by rw [show xx + 80 - 80 = xx by omega, show xx + 80 + 1 - 80 = xx + 1 by omega]; rcases hb1 with q | q; exact absurd q.2 cv1; skip; rcases hb2 with q2 | q2; exact absurd q2.2 cv2; skip; rw [← q.2.1, ← q2.2.1]; omega)), show xx + 80 + 1 = xx + 1 + 80 by omega]) (fun q => by omega) (by omega) (by omega) _ (lv_sub hl [0, 1, 4, 5, 6] rfl)
                · refine r_iconst hx hb dX0_restAt_63 ?_
                  refine lv_goto (tgt := 68) hx hb dX0_restAt_64 (by decide) ?_
                  refine r_icmp_eq (tgt := 75) hx hb dX0_restAt_68 (by decide) (by decide) (by decide) (fun c14 => absurd c14 (by decide)) (fun c14 => ?_)
                  have hch : chgS (lvF (I 1) (F 2) (F 3) (heavyS (I 4) (F 9) (F 5) (I 10) (F 14))) (arF (I 1) (F 2) (F 3) (heavyS (I 4) (F 9) (F 5) (I 10) (F 14)) (downS (I 4) (F 9) (F 5) pl (F 7) (I 10) (F 14) (F 13) (F 11) (F 12))) (xx + 80) = true := decide_eq_true ⟨by rw [show xx + 80 - 80 = xx by omega]; rcases hb1 with q | q; exact absurd q.2 cv1; exact q.1, by rw [show xx + 80 + 1 - 80 = xx + 1 by omega]; rcases hb2 with q | q; exact absurd q.2 cv2; exact q.1, by rw [show xx + 80 - 80 = xx by omega, show xx + 80 + 1 - 80 = xx + 1 by omega]; rcases hb1 with q | q; exact absurd q.2 cv1; skip; rcases hb2 with q2 | q2; exact absurd q2.2 cv2; skip; rw [← q.2.1, ← q2.2.1]; omega⟩
                  refine r_iconst hx hb dX0_restAt_71 ?_
                  refine lv_goto (tgt := 76) hx hb dX0_restAt_72 (by decide) ?_
                  refine lv_istore (lv' := [(6, .int (iI 1)), (5, .int (iI bh)), (4, .int (iI xx)), (3, .int (iI b0)), (2, .int (iI lf)), (0, .ref (ad 0)), (1, .int (iI kk))]) hx hb dX0_restAt_76 hl (by decide) rfl (fun ls hl => ?_)
                  refine lv_iload hx hb dX0_restAt_78 (lv_at hl 0 rfl) ?_
                  refine r_if_eq (tgt := 103) hx hb dX0_restAt_80 (by decide) (by decide) (fun c15 => absurd c15 (by decide)) (fun c15 => ?_)
                  refine lv_iload_n hx hb dX0_restAt_83 rfl (lv_at hl 4 rfl) ?_
                  refine r_if_ne (tgt := 103) hx hb dX0_restAt_84 (by decide) (by omega) (fun cl0 => ?_) (fun cl0 => ?_)
                  · refine lv_iload hx hb dX0_restAt_103 (lv_at hl 0 rfl) ?_
                    refine r_if_eq (tgt := 111) hx hb dX0_restAt_105 (by decide) (by decide) (fun c16 => absurd c16 (by decide)) (fun c16 => ?_)
                    refine lv_iinc (v := iI (lf + (-1))) (lv' := [(2, .int (iI (lf + (-1)))), (6, .int (iI 1)), (5, .int (iI bh)), (4, .int (iI xx)), (3, .int (iI b0)), (0, .ref (ad 0)), (1, .int (iI kk))]) hx hb dX0_restAt_108 hl (k := 4) rfl (iI_add _ _) (by decide) rfl (fun ls hl => ?_)
                    refine lv_iload hx hb dX0_restAt_111 (lv_at hl 2 rfl) ?_
                    refine lv_istore_n (lv' := [(3, .int (iI bh)), (2, .int (iI (lf + (-1)))), (6, .int (iI 1)), (5, .int (iI bh)), (4, .int (iI xx)), (0, .ref (ad 0)), (1, .int (iI kk))]) hx hb dX0_restAt_113 rfl hl (by decide) rfl (fun ls hl => ?_)
                    refine lv_iinc (v := iI (xx + 1)) (lv' := [(4, .int (iI (xx + 1))), (3, .int (iI bh)), (2, .int (iI (lf + (-1)))), (6, .int (iI 1)), (5, .int (iI bh)), (0, .ref (ad 0)), (1, .int (iI kk))]) hx hb dX0_restAt_114 hl (k := 4) rfl (iI_add _ _) (by decide) rfl (fun ls hl => ?_)
                    refine lv_goto (tgt := 14) hx hb dX0_restAt_117 (by decide) ?_
                    exact ih2 (lf + (-1)) bh (xx + 1) (by omega) (by rw [h_bh]) (by omega) (by omega) (fun q => by rw [← er1, rstF_s (i := xx + 80) (by omega), if_pos hch, if_neg cl0, show xx + 80 + 1 = xx + 1 + 80 by omega]; rfl) (fun q => by omega) (by omega) (by omega) _ (lv_sub hl [0, 1, 2, 5, 6] rfl)
                  · have eri : restI (lvF (I 1) (F 2) (F 3) (heavyS (I 4) (F 9) (F 5) (I 10) (F 14))) (arF (I 1) (F 2) (F 3) (heavyS (I 4) (F 9) (F 5) (I 10) (F 14)) (downS (I 4) (F 9) (F 5) pl (F 7) (I 10) (F 14) (F 13) (F 11) (F 12))) kk = xx + 80 := by rw [← er1, rstF_s (i := xx + 80) (by omega), if_pos hch, if_pos cl0]
                    refine r_iconst hx hb dX0_restAt_87 ?_
                    refine lv_iload hx hb dX0_restAt_88 (lv_at hl 2 rfl) ?_
                    refine r_imul hx hb dX0_restAt_90 ?_
                    refine lv_iload hx hb dX0_restAt_91 (lv_at hl 1 rfl) ?_
                    refine r_if_le (tgt := 100) hx hb dX0_restAt_93 (by decide) (by omega) (fun c17 => ?_) (fun c17 => absurd c17 (by omega))
                    refine r_iconst hx hb dX0_restAt_100 ?_
                    refine r_iadd hx hb dX0_restAt_101 ?_
                    exact j_iret hC hr hlk hQ dX0_restAt_102 (by rcases hb2 with q2 | q2; exact absurd q2.2 cv2; skip; rw [eri, if_neg (by omega), show xx + 80 + 1 - 80 = xx + 1 by omega, ← q2.2.1, if_neg (by omega)]; omega)
              · refine r_iconst hx hb dX0_restAt_53 ?_
                refine lv_goto (tgt := 58) hx hb dX0_restAt_54 (by decide) ?_
                refine lv_iload hx hb dX0_restAt_58 (lv_at hl 0 rfl) ?_
                refine r_if_gt (tgt := 67) hx hb dX0_restAt_60 (by decide) (by omega) (fun c18 => ?_) (fun c18 => ?_)
                · refine r_iconst hx hb dX0_restAt_67 ?_
                  refine r_icmp_eq (tgt := 75) hx hb dX0_restAt_68 (by decide) (by decide) (by decide) (fun c19 => absurd c19 (by decide)) (fun c19 => ?_)
                  have hch : chgS (lvF (I 1) (F 2) (F 3) (heavyS (I 4) (F 9) (F 5) (I 10) (F 14))) (arF (I 1) (F 2) (F 3) (heavyS (I 4) (F 9) (F 5) (I 10) (F 14)) (downS (I 4) (F 9) (F 5) pl (F 7) (I 10) (F 14) (F 13) (F 11) (F 12))) (xx + 80) = true := decide_eq_true ⟨by rw [show xx + 80 - 80 = xx by omega]; rcases hb1 with q | q; exact absurd q.2 cv1; exact q.1, by rw [show xx + 80 + 1 - 80 = xx + 1 by omega]; rcases hb2 with q | q; exact absurd q.2 cv2; exact q.1, by rw [show xx + 80 - 80 = xx by omega, show xx + 80 + 1 - 80 = xx + 1 by omega]; rcases hb1 with q | q; exact absurd q.2 cv1; skip; rcases hb2 with q2 | q2; exact absurd q2.2 cv2; skip; rw [← q.2.1, ← q2.2.1]; omega⟩
                  refine r_iconst hx hb dX0_restAt_71 ?_
                  refine lv_goto (tgt := 76) hx hb dX0_restAt_72 (by decide) ?_
                  refine lv_istore (lv' := [(6, .int (iI 1)), (5, .int (iI bh)), (4, .int (iI xx)), (3, .int (iI b0)), (2, .int (iI lf)), (0, .ref (ad 0)), (1, .int (iI kk))]) hx hb dX0_restAt_76 hl (by decide) rfl (fun ls hl => ?_)
                  refine lv_iload hx hb dX0_restAt_78 (lv_at hl 0 rfl) ?_
                  refine r_if_eq (tgt := 103) hx hb dX0_restAt_80 (by decide) (by decide) (fun c20 => absurd c20 (by decide)) (fun c20 => ?_)
                  refine lv_iload_n hx hb dX0_restAt_83 rfl (lv_at hl 4 rfl) ?_
                  refine r_if_ne (tgt := 103) hx hb dX0_restAt_84 (by decide) (by omega) (fun cl0 => ?_) (fun cl0 => ?_)
                  · refine lv_iload hx hb dX0_restAt_103 (lv_at hl 0 rfl) ?_
                    refine r_if_eq (tgt := 111) hx hb dX0_restAt_105 (by decide) (by decide) (fun c21 => absurd c21 (by decide)) (fun c21 => ?_)
                    refine lv_iinc (v := iI (lf + (-1))) (lv' := [(2, .int (iI (lf + (-1)))), (6, .int (iI 1)), (5, .int (iI bh)), (4, .int (iI xx)), (3, .int (iI b0)), (0, .ref (ad 0)), (1, .int (iI kk))]) hx hb dX0_restAt_108 hl (k := 4) rfl (iI_add _ _) (by decide) rfl (fun ls hl => ?_)
                    refine lv_iload hx hb dX0_restAt_111 (lv_at hl 2 rfl) ?_
                    refine lv_istore_n (lv' := [(3, .int (iI bh)), (2, .int (iI (lf + (-1)))), (6, .int (iI 1)), (5, .int (iI bh)), (4, .int (iI xx)), (0, .ref (ad 0)), (1, .int (iI kk))]) hx hb dX0_restAt_113 rfl hl (by decide) rfl (fun ls hl => ?_)
                    refine lv_iinc (v := iI (xx + 1)) (lv' := [(4, .int (iI (xx + 1))), (3, .int (iI bh)), (2, .int (iI (lf + (-1)))), (6, .int (iI 1)), (5, .int (iI bh)), (0, .ref (ad 0)), (1, .int (iI kk))]) hx hb dX0_restAt_114 hl (k := 4) rfl (iI_add _ _) (by decide) rfl (fun ls hl => ?_)
                    refine lv_goto (tgt := 14) hx hb dX0_restAt_117 (by decide) ?_
                    exact ih2 (lf + (-1)) bh (xx + 1) (by omega) (by rw [h_bh]) (by omega) (by omega) (fun q => by rw [← er1, rstF_s (i := xx + 80) (by omega), if_pos hch, if_neg cl0, show xx + 80 + 1 = xx + 1 + 80 by omega]; rfl) (fun q => by omega) (by omega) (by omega) _ (lv_sub hl [0, 1, 2, 5, 6] rfl)
                  · have eri : restI (lvF (I 1) (F 2) (F 3) (heavyS (I 4) (F 9) (F 5) (I 10) (F 14))) (arF (I 1) (F 2) (F 3) (heavyS (I 4) (F 9) (F 5) (I 10) (F 14)) (downS (I 4) (F 9) (F 5) pl (F 7) (I 10) (F 14) (F 13) (F 11) (F 12))) kk = xx + 80 := by rw [← er1, rstF_s (i := xx + 80) (by omega), if_pos hch, if_pos cl0]
                    refine r_iconst hx hb dX0_restAt_87 ?_
                    refine lv_iload hx hb dX0_restAt_88 (lv_at hl 2 rfl) ?_
                    refine r_imul hx hb dX0_restAt_90 ?_
                    refine lv_iload hx hb dX0_restAt_91 (lv_at hl 1 rfl) ?_
                    refine r_if_le (tgt := 100) hx hb dX0_restAt_93 (by decide) (by omega) (fun c22 => absurd c22 (by omega)) (fun c22 => ?_)
                    refine r_iconst hx hb dX0_restAt_96 ?_
                    refine lv_goto (tgt := 101) hx hb dX0_restAt_97 (by decide) ?_
                    refine r_iadd hx hb dX0_restAt_101 ?_
                    exact j_iret hC hr hlk hQ dX0_restAt_102 (by rcases hb2 with q2 | q2; exact absurd q2.2 cv2; skip; rw [eri, if_neg (by omega), show xx + 80 + 1 - 80 = xx + 1 by omega, ← q2.2.1, if_pos (by omega)]; omega)
                · refine r_iconst hx hb dX0_restAt_63 ?_
                  refine lv_goto (tgt := 68) hx hb dX0_restAt_64 (by decide) ?_
                  refine r_icmp_eq (tgt := 75) hx hb dX0_restAt_68 (by decide) (by decide) (by decide) (fun c23 => ?_) (fun c23 => absurd c23 (by decide))
                  refine r_iconst hx hb dX0_restAt_75 ?_
                  refine lv_istore (lv' := [(6, .int (iI 0)), (5, .int (iI bh)), (4, .int (iI xx)), (3, .int (iI b0)), (2, .int (iI lf)), (0, .ref (ad 0)), (1, .int (iI kk))]) hx hb dX0_restAt_76 hl (by decide) rfl (fun ls hl => ?_)
                  refine lv_iload hx hb dX0_restAt_78 (lv_at hl 0 rfl) ?_
                  refine r_if_eq (tgt := 103) hx hb dX0_restAt_80 (by decide) (by decide) (fun c24 => ?_) (fun c24 => absurd c24 (by decide))
                  refine lv_iload hx hb dX0_restAt_103 (lv_at hl 0 rfl) ?_
                  refine r_if_eq (tgt := 111) hx hb dX0_restAt_105 (by decide) (by decide) (fun c25 => ?_) (fun c25 => absurd c25 (by decide))
                  refine lv_iload hx hb dX0_restAt_111 (lv_at hl 1 rfl) ?_
                  refine lv_istore_n (lv' := [(3, .int (iI bh)), (6, .int (iI 0)), (5, .int (iI bh)), (4, .int (iI xx)), (2, .int (iI lf)), (0, .ref (ad 0)), (1, .int (iI kk))]) hx hb dX0_restAt_113 rfl hl (by decide) rfl (fun ls hl => ?_)
                  refine lv_iinc (v := iI (xx + 1)) (lv' := [(4, .int (iI (xx + 1))), (3, .int (iI bh)), (6, .int (iI 0)), (5, .int (iI bh)), (2, .int (iI lf)), (0, .ref (ad 0)), (1, .int (iI kk))]) hx hb dX0_restAt_114 hl (k := 3) rfl (iI_add _ _) (by decide) rfl (fun ls hl => ?_)
                  refine lv_goto (tgt := 14) hx hb dX0_restAt_117 (by decide) ?_
                  exact ih2 lf bh (xx + 1) (by omega) (by rw [h_bh]) (by omega) (by omega) (fun q => by rw [← er1, rstF_s (i := xx + 80) (by omega), if_neg (show ¬ chgS (lvF (I 1) (F 2) (F 3) (heavyS (I 4) (F 9) (F 5) (I 10) (F 14))) (arF (I 1) (F 2) (F 3) (heavyS (I 4) (F 9) (F 5) (I 10) (F 14)) (downS (I 4) (F 9) (F 5) pl (F 7) (I 10) (F 14) (F 13) (F 11) (F 12))) (xx + 80) = true from fun q => (of_decide_eq_true q).2.2 (by rw [show xx + 80 - 80 = xx by omega, show xx + 80 + 1 - 80 = xx + 1 by omega]; rcases hb1 with q | q; exact absurd q.2 cv1; skip; rcases hb2 with q2 | q2; exact absurd q2.2 cv2; skip; rw [← q.2.1, ← q2.2.1]; omega)), show xx + 80 + 1 = xx + 1 + 80 by omega]) (fun q => by omega) (by omega) (by omega) _ (lv_sub hl [0, 1, 4, 5, 6] rfl)
  exact loop14_1 ((80 - (-80) : Int).toNat + 1) kk (atS (lvF (I 1) (F 2) (F 3) (heavyS (I 4) (F 9) (F 5) (I 10) (F 14))) (fun sl => pushS (I 1) (F 2) (F 3) sl ((lvF (I 1) (F 2) (F 3) (heavyS (I 4) (F 9) (F 5) (I 10) (F 14))) sl)) (arF (I 1) (F 2) (F 3) (heavyS (I 4) (F 9) (F 5) (I 10) (F 14)) (downS (I 4) (F 9) (F 5) pl (F 7) (I 10) (F 14) (F 13) (F 11) (F 12))) (-80) 2) (-80) (by omega) rfl (by omega) (by omega) (fun q => (if_neg (by omega)).symm) (fun _ => rfl) (by omega) (by omega) _ (lv_sub hl [0, 1, 2, 3, 4] rfl)
theorem dX0_rest_0 : decode cX0_rest 0 = .ok (.aload_n 0, 1) := by decide +kernel
theorem dX0_rest_1 : decode cX0_rest 1 = .ok (.iload_n 1, 1) := by decide +kernel
theorem dX0_rest_2 : decode cX0_rest 2 = .ok (.invokevirtual 234, 3) := by decide +kernel
theorem dX0_rest_5 : decode cX0_rest 5 = .ok (.istore_n 2, 1) := by decide +kernel
theorem dX0_rest_6 : decode cX0_rest 6 = .ok (.iload_n 2, 1) := by decide +kernel
theorem dX0_rest_7 : decode cX0_rest 7 = .ok (.ldc 206, 2) := by decide +kernel
theorem dX0_rest_9 : decode cX0_rest 9 = .ok (.if_icmp .ne 8, 3) := by decide +kernel
theorem dX0_rest_12 : decode cX0_rest 12 = .ok (.ldc 206, 2) := by decide +kernel
theorem dX0_rest_14 : decode cX0_rest 14 = .ok (.goto 8, 3) := by decide +kernel
theorem dX0_rest_17 : decode cX0_rest 17 = .ok (.iload_n 2, 1) := by decide +kernel
theorem dX0_rest_18 : decode cX0_rest 18 = .ok (.iconst 2, 1) := by decide +kernel
theorem dX0_rest_19 : decode cX0_rest 19 = .ok (.invokestatic 207, 3) := by decide +kernel
theorem dX0_rest_22 : decode cX0_rest 22 = .ok (.ireturn, 1) := by decide +kernel
set_option maxHeartbeats 4000000 in
theorem crest (l : Launch) (adK adV st : Nat → Nat) (D : va_G) (E : Nat → ClassId) (A : Nat → Prop) (ad nv : Nat → Nat) (I : Nat → Int) (F : Nat → Int → Int) (S : Nat → Nat → Int) (Y : Nat → Int → Int) (L : Nat → Nat) (kk : Int) (pl : Int → Int) (epl : ∀ w, 0 ≤ w → w < I 4 → Y 21 w = pl w) (gp0 : Bd pl 12 (-19) 19) (r_k : R32 kk) (hn : cOK nv I L) (gh0 : gHull I F) (gl0 : gLoad I F) : JM l yX0_rest cX0_rest 3 (some .int) (mrm 7) (CX adK adV st D E A ad nv I F S Y L) [.ref (ad 0), .int (iI kk)] (vp_Si (fun r => r = iI (restS (lvF (I 1) (F 2) (F 3) (heavyS (I 4) (F 9) (F 5) (I 10) (F 14))) (arF (I 1) (F 2) (F 3) (heavyS (I 4) (F 9) (F 5) (I 10) (F 14)) (downS (I 4) (F 9) (F 5) pl (F 7) (I 10) (F 14) (F 13) (F 11) (F 12))) kk))) := by
  refine j_start (by decide) rfl (Nat.le_of_ble_eq_true rfl) ?_
  intro p e R s m args below meth c ls Q hR hQ hC hml hr hlk hB hl
  have hx := hC.1
  have hb := hC.2.1
  have hown := hC.2.2.1
  have hts := hC.2.2.2
  have hS : va_S A s.heap s.heap [] := va_S.rf
  have hK := hB.1
  have hG := hB.2.1
  have hE := hB.2.2
  have hCK : CK p m c _ s args _ D E := ⟨hx, hb, hown, hts, hK⟩
  have hl : lv_has ls 3 [(0, .ref (ad 0)), (1, .int (iI kk))] := hl
  refine lv_aload_n hx hb dX0_rest_0 rfl (lv_at hl 0 rfl) ?_
  refine lv_iload_n hx hb dX0_rest_1 rfl (lv_at hl 1 rfl) ?_
  refine s_calli (j_runV (n := 1) (C := RX0) (b := ad 0) (rest := []) (as := [.int (iI kk)]) hx hb hml hown hts (crestAt l adK adV st D E A ad nv I F S Y L kk pl epl gp0 (by omega) hn gh0 gl0) GB.blind (GB.at hK hG hE hS) (g_rec (r := 0) (ci := 0) hK hG (Or.inl (by decide)) rfl cC_0) q781 q783 qs22 q68 q784 (by decide +kernel) ⟨rfl, rfl⟩ hR (by decide) ⟨Nat.zero_le _, Nat.zero_le _⟩ rfl hl.1 rfl (Nat.le_of_ble_eq_true rfl) dX0_rest_2) ?_
  obtain ⟨z, h_z⟩ : ∃ x : Int, x = (if restI (lvF (I 1) (F 2) (F 3) (heavyS (I 4) (F 9) (F 5) (I 10) (F 14))) (arF (I 1) (F 2) (F 3) (heavyS (I 4) (F 9) (F 5) (I 10) (F 14)) (downS (I 4) (F 9) (F 5) pl (F 7) (I 10) (F 14) (F 13) (F 11) (F 12))) kk = -1 then -2147483648 else 2 * (restI (lvF (I 1) (F 2) (F 3) (heavyS (I 4) (F 9) (F 5) (I 10) (F 14))) (arF (I 1) (F 2) (F 3) (heavyS (I 4) (F 9) (F 5) (I 10) (F 14)) (downS (I 4) (F 9) (F 5) pl (F 7) (I 10) (F 14) (F 13) (F 11) (F 12))) kk - 80) + (if 0 < (arF (I 1) (F 2) (F 3) (heavyS (I 4) (F 9) (F 5) (I 10) (F 14)) (downS (I 4) (F 9) (F 5) pl (F 7) (I 10) (F 14) (F 13) (F 11) (F 12))) (restI (lvF (I 1) (F 2) (F 3) (heavyS (I 4) (F 9) (F 5) (I 10) (F 14))) (arF (I 1) (F 2) (F 3) (heavyS (I 4) (F 9) (F 5) (I 10) (F 14)) (downS (I 4) (F 9) (F 5) pl (F 7) (I 10) (F 14) (F 13) (F 11) (F 12))) kk + 1 - 80) then 1 else 0)) := ⟨_, rfl⟩
  refine W.eq (g2 := F0 m 5 ls [.int (iI z)]) (by subst h_z; rfl) ?_
  have hz := rest_dv h_z
  have hz1 := hz.1
  refine lv_istore_n (lv' := [(2, .int (iI z)), (0, .ref (ad 0)), (1, .int (iI kk))]) hx hb dX0_rest_5 rfl hl (by decide) rfl (fun ls hl => ?_)
  refine lv_iload_n hx hb dX0_rest_6 rfl (lv_at hl 0 rfl) ?_
  refine r_ldc hx hb (-2147483648) hown (hts _ q746) (by decide) dX0_rest_7 ?_
  refine r_icmp_ne (tgt := 17) hx hb dX0_rest_9 (by decide) (by omega) (by decide) (fun cz => ?_) (fun cz => ?_)
  · refine lv_iload_n hx hb dX0_rest_17 rfl (lv_at hl 0 rfl) ?_
    refine r_iconst hx hb dX0_rest_18 ?_
    refine s_calli (j_runS (n := 2) (rest := []) (as := [.int (iI z), .int (iI 2)]) hx hb hml hown hts ((met_fdiv l z 2 (by omega) (by omega)).jm) (fun _ _ _ _ _ => trivial) (fun _ _ _ => trivial) q763 q764 q76 q765 (by decide +kernel) ⟨rfl, rfl⟩ hR (by decide) ⟨Nat.zero_le _, Nat.zero_le _⟩ rfl hl.1 rfl (Nat.le_of_ble_eq_true rfl) dX0_rest_19) ?_
    exact j_iret hC hr hlk hQ dX0_rest_22 (((hz.2.2 cz).1).symm)
  · refine r_ldc hx hb (-2147483648) hown (hts _ q746) (by decide) dX0_rest_12 ?_
    refine lv_goto (tgt := 22) hx hb dX0_rest_14 (by decide) ?_
    exact j_iret hC hr hlk hQ dX0_rest_22 (((hz.2.1 cz).1).symm)
theorem dX0_stays_0 : decode cX0_stays 0 = .ok (.aload_n 0, 1) := by decide +kernel
theorem dX0_stays_1 : decode cX0_stays 1 = .ok (.iload_n 1, 1) := by decide +kernel
theorem dX0_stays_2 : decode cX0_stays 2 = .ok (.invokevirtual 234, 3) := by decide +kernel
theorem dX0_stays_5 : decode cX0_stays 5 = .ok (.istore_n 2, 1) := by decide +kernel
theorem dX0_stays_6 : decode cX0_stays 6 = .ok (.iload_n 2, 1) := by decide +kernel
theorem dX0_stays_7 : decode cX0_stays 7 = .ok (.ldc 206, 2) := by decide +kernel
theorem dX0_stays_9 : decode cX0_stays 9 = .ok (.if_icmp .ne 7, 3) := by decide +kernel
theorem dX0_stays_12 : decode cX0_stays 12 = .ok (.iconst (-1), 1) := by decide +kernel
theorem dX0_stays_13 : decode cX0_stays 13 = .ok (.goto 8, 3) := by decide +kernel
theorem dX0_stays_16 : decode cX0_stays 16 = .ok (.iload_n 2, 1) := by decide +kernel
theorem dX0_stays_17 : decode cX0_stays 17 = .ok (.iconst 2, 1) := by decide +kernel
theorem dX0_stays_18 : decode cX0_stays 18 = .ok (.invokestatic 237, 3) := by decide +kernel
theorem dX0_stays_21 : decode cX0_stays 21 = .ok (.ireturn, 1) := by decide +kernel
set_option maxHeartbeats 4000000 in
theorem cstays (l : Launch) (adK adV st : Nat → Nat) (D : va_G) (E : Nat → ClassId) (A : Nat → Prop) (ad nv : Nat → Nat) (I : Nat → Int) (F : Nat → Int → Int) (S : Nat → Nat → Int) (Y : Nat → Int → Int) (L : Nat → Nat) (kk : Int) (pl : Int → Int) (epl : ∀ w, 0 ≤ w → w < I 4 → Y 21 w = pl w) (gp0 : Bd pl 12 (-19) 19) (r_k : R32 kk) (hn : cOK nv I L) (gh0 : gHull I F) (gl0 : gLoad I F) : JM l yX0_stays cX0_stays 3 (some .int) (mrm 7) (CX adK adV st D E A ad nv I F S Y L) [.ref (ad 0), .int (iI kk)] (vp_Si (fun r => r = iI (staysS (lvF (I 1) (F 2) (F 3) (heavyS (I 4) (F 9) (F 5) (I 10) (F 14))) (arF (I 1) (F 2) (F 3) (heavyS (I 4) (F 9) (F 5) (I 10) (F 14)) (downS (I 4) (F 9) (F 5) pl (F 7) (I 10) (F 14) (F 13) (F 11) (F 12))) kk))) := by
  refine j_start (by decide) rfl (Nat.le_of_ble_eq_true rfl) ?_
  intro p e R s m args below meth c ls Q hR hQ hC hml hr hlk hB hl
  have hx := hC.1
  have hb := hC.2.1
  have hown := hC.2.2.1
  have hts := hC.2.2.2
  have hS : va_S A s.heap s.heap [] := va_S.rf
  have hK := hB.1
  have hG := hB.2.1
  have hE := hB.2.2
  have hCK : CK p m c _ s args _ D E := ⟨hx, hb, hown, hts, hK⟩
  have hl : lv_has ls 3 [(0, .ref (ad 0)), (1, .int (iI kk))] := hl
  refine lv_aload_n hx hb dX0_stays_0 rfl (lv_at hl 0 rfl) ?_
  refine lv_iload_n hx hb dX0_stays_1 rfl (lv_at hl 1 rfl) ?_
  refine s_calli (j_runV (n := 1) (C := RX0) (b := ad 0) (rest := []) (as := [.int (iI kk)]) hx hb hml hown hts (crestAt l adK adV st D E A ad nv I F S Y L kk pl epl gp0 (by omega) hn gh0 gl0) GB.blind (GB.at hK hG hE hS) (g_rec (r := 0) (ci := 0) hK hG (Or.inl (by decide)) rfl cC_0) q781 q783 qs22 q68 q784 (by decide +kernel) ⟨rfl, rfl⟩ hR (by decide) ⟨Nat.zero_le _, Nat.zero_le _⟩ rfl hl.1 rfl (Nat.le_of_ble_eq_true rfl) dX0_stays_2) ?_
  obtain ⟨z, h_z⟩ : ∃ x : Int, x = (if restI (lvF (I 1) (F 2) (F 3) (heavyS (I 4) (F 9) (F 5) (I 10) (F 14))) (arF (I 1) (F 2) (F 3) (heavyS (I 4) (F 9) (F 5) (I 10) (F 14)) (downS (I 4) (F 9) (F 5) pl (F 7) (I 10) (F 14) (F 13) (F 11) (F 12))) kk = -1 then -2147483648 else 2 * (restI (lvF (I 1) (F 2) (F 3) (heavyS (I 4) (F 9) (F 5) (I 10) (F 14))) (arF (I 1) (F 2) (F 3) (heavyS (I 4) (F 9) (F 5) (I 10) (F 14)) (downS (I 4) (F 9) (F 5) pl (F 7) (I 10) (F 14) (F 13) (F 11) (F 12))) kk - 80) + (if 0 < (arF (I 1) (F 2) (F 3) (heavyS (I 4) (F 9) (F 5) (I 10) (F 14)) (downS (I 4) (F 9) (F 5) pl (F 7) (I 10) (F 14) (F 13) (F 11) (F 12))) (restI (lvF (I 1) (F 2) (F 3) (heavyS (I 4) (F 9) (F 5) (I 10) (F 14))) (arF (I 1) (F 2) (F 3) (heavyS (I 4) (F 9) (F 5) (I 10) (F 14)) (downS (I 4) (F 9) (F 5) pl (F 7) (I 10) (F 14) (F 13) (F 11) (F 12))) kk + 1 - 80) then 1 else 0)) := ⟨_, rfl⟩
  refine W.eq (g2 := F0 m 5 ls [.int (iI z)]) (by subst h_z; rfl) ?_
  have hz := rest_dv h_z
  have hz1 := hz.1
  refine lv_istore_n (lv' := [(2, .int (iI z)), (0, .ref (ad 0)), (1, .int (iI kk))]) hx hb dX0_stays_5 rfl hl (by decide) rfl (fun ls hl => ?_)
  refine lv_iload_n hx hb dX0_stays_6 rfl (lv_at hl 0 rfl) ?_
  refine r_ldc hx hb (-2147483648) hown (hts _ q746) (by decide) dX0_stays_7 ?_
  refine r_icmp_ne (tgt := 16) hx hb dX0_stays_9 (by decide) (by omega) (by decide) (fun cz => ?_) (fun cz => ?_)
  · refine lv_iload_n hx hb dX0_stays_16 rfl (lv_at hl 0 rfl) ?_
    refine r_iconst hx hb dX0_stays_17 ?_
    refine s_calli (j_runS (n := 2) (rest := []) (as := [.int (iI z), .int (iI 2)]) hx hb hml hown hts ((met_fmod l z 2 (by omega) (by omega)).jm) (fun _ _ _ _ _ => trivial) (fun _ _ _ => trivial) q790 q791 q76 q792 (by decide +kernel) ⟨rfl, rfl⟩ hR (by decide) ⟨Nat.zero_le _, Nat.zero_le _⟩ rfl hl.1 rfl (Nat.le_of_ble_eq_true rfl) dX0_stays_18) ?_
    exact j_iret hC hr hlk hQ dX0_stays_21 (((hz.2.2 cz).2).symm)
  · refine r_iconst hx hb dX0_stays_12 ?_
    refine lv_goto (tgt := 21) hx hb dX0_stays_13 (by decide) ?_
    exact j_iret hC hr hlk hQ dX0_stays_21 (((hz.2.1 cz).2).symm)
