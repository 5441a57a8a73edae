/-! THE COMPONENT: what pushes a ship -/
set_option maxRecDepth 100000
theorem dX1_pushes_0 : decode cX1_pushes 0 = .ok (.aload_n 0, 1) := by decide +kernel
theorem dX1_pushes_1 : decode cX1_pushes 1 = .ok (.getfield 19, 3) := by decide +kernel
theorem dX1_pushes_4 : decode cX1_pushes 4 = .ok (.iconst 0, 1) := by decide +kernel
theorem dX1_pushes_5 : decode cX1_pushes 5 = .ok (.aload_n 0, 1) := by decide +kernel
theorem dX1_pushes_6 : decode cX1_pushes 6 = .ok (.getfield 3, 3) := by decide +kernel
theorem dX1_pushes_9 : decode cX1_pushes 9 = .ok (.aload_n 0, 1) := by decide +kernel
theorem dX1_pushes_10 : decode cX1_pushes 10 = .ok (.getfield 35, 3) := by decide +kernel
theorem dX1_pushes_13 : decode cX1_pushes 13 = .ok (.iload_n 1, 1) := by decide +kernel
theorem dX1_pushes_14 : decode cX1_pushes 14 = .ok (.aload_n 0, 1) := by decide +kernel
theorem dX1_pushes_15 : decode cX1_pushes 15 = .ok (.getfield 15, 3) := by decide +kernel
theorem dX1_pushes_18 : decode cX1_pushes 18 = .ok (.invokevirtual 118, 3) := by decide +kernel
theorem dX1_pushes_21 : decode cX1_pushes 21 = .ok (.ineg, 1) := by decide +kernel
theorem dX1_pushes_22 : decode cX1_pushes 22 = .ok (.aload_n 0, 1) := by decide +kernel
theorem dX1_pushes_23 : decode cX1_pushes 23 = .ok (.getfield 3, 3) := by decide +kernel
theorem dX1_pushes_26 : decode cX1_pushes 26 = .ok (.getfield 122, 3) := by decide +kernel
theorem dX1_pushes_29 : decode cX1_pushes 29 = .ok (.idiv, 1) := by decide +kernel
theorem dX1_pushes_30 : decode cX1_pushes 30 = .ok (.iastore, 1) := by decide +kernel
theorem dX1_pushes_31 : decode cX1_pushes 31 = .ok (.aload_n 0, 1) := by decide +kernel
theorem dX1_pushes_32 : decode cX1_pushes 32 = .ok (.getfield 19, 3) := by decide +kernel
theorem dX1_pushes_35 : decode cX1_pushes 35 = .ok (.iconst 1, 1) := by decide +kernel
theorem dX1_pushes_36 : decode cX1_pushes 36 = .ok (.aload_n 0, 1) := by decide +kernel
theorem dX1_pushes_37 : decode cX1_pushes 37 = .ok (.getfield 3, 3) := by decide +kernel
theorem dX1_pushes_40 : decode cX1_pushes 40 = .ok (.aload_n 0, 1) := by decide +kernel
theorem dX1_pushes_41 : decode cX1_pushes 41 = .ok (.getfield 42, 3) := by decide +kernel
theorem dX1_pushes_44 : decode cX1_pushes 44 = .ok (.invokevirtual 67, 3) := by decide +kernel
theorem dX1_pushes_47 : decode cX1_pushes 47 = .ok (.iastore, 1) := by decide +kernel
theorem dX1_pushes_48 : decode cX1_pushes 48 = .ok (.aload_n 0, 1) := by decide +kernel
theorem dX1_pushes_49 : decode cX1_pushes 49 = .ok (.getfield 19, 3) := by decide +kernel
theorem dX1_pushes_52 : decode cX1_pushes 52 = .ok (.iconst 2, 1) := by decide +kernel
theorem dX1_pushes_53 : decode cX1_pushes 53 = .ok (.aload_n 0, 1) := by decide +kernel
theorem dX1_pushes_54 : decode cX1_pushes 54 = .ok (.getfield 39, 3) := by decide +kernel
theorem dX1_pushes_57 : decode cX1_pushes 57 = .ok (.aload_n 0, 1) := by decide +kernel
theorem dX1_pushes_58 : decode cX1_pushes 58 = .ok (.getfield 3, 3) := by decide +kernel
theorem dX1_pushes_61 : decode cX1_pushes 61 = .ok (.getfield 125, 3) := by decide +kernel
theorem dX1_pushes_64 : decode cX1_pushes 64 = .ok (.imul, 1) := by decide +kernel
theorem dX1_pushes_65 : decode cX1_pushes 65 = .ok (.ineg, 1) := by decide +kernel
theorem dX1_pushes_66 : decode cX1_pushes 66 = .ok (.bipush 10, 2) := by decide +kernel
theorem dX1_pushes_68 : decode cX1_pushes 68 = .ok (.idiv, 1) := by decide +kernel
theorem dX1_pushes_69 : decode cX1_pushes 69 = .ok (.iastore, 1) := by decide +kernel
theorem dX1_pushes_70 : decode cX1_pushes 70 = .ok (.aload_n 0, 1) := by decide +kernel
theorem dX1_pushes_71 : decode cX1_pushes 71 = .ok (.getfield 19, 3) := by decide +kernel
theorem dX1_pushes_74 : decode cX1_pushes 74 = .ok (.iconst 3, 1) := by decide +kernel
theorem dX1_pushes_75 : decode cX1_pushes 75 = .ok (.aload_n 0, 1) := by decide +kernel
theorem dX1_pushes_76 : decode cX1_pushes 76 = .ok (.iconst 1, 1) := by decide +kernel
theorem dX1_pushes_77 : decode cX1_pushes 77 = .ok (.invokevirtual 128, 3) := by decide +kernel
theorem dX1_pushes_80 : decode cX1_pushes 80 = .ok (.ifCond .eq 21, 3) := by decide +kernel
theorem dX1_pushes_83 : decode cX1_pushes 83 = .ok (.aload_n 0, 1) := by decide +kernel
theorem dX1_pushes_84 : decode cX1_pushes 84 = .ok (.getfield 39, 3) := by decide +kernel
theorem dX1_pushes_87 : decode cX1_pushes 87 = .ok (.aload_n 0, 1) := by decide +kernel
theorem dX1_pushes_88 : decode cX1_pushes 88 = .ok (.getfield 3, 3) := by decide +kernel
theorem dX1_pushes_91 : decode cX1_pushes 91 = .ok (.getfield 132, 3) := by decide +kernel
theorem dX1_pushes_94 : decode cX1_pushes 94 = .ok (.imul, 1) := by decide +kernel
theorem dX1_pushes_95 : decode cX1_pushes 95 = .ok (.ineg, 1) := by decide +kernel
theorem dX1_pushes_96 : decode cX1_pushes 96 = .ok (.iconst 4, 1) := by decide +kernel
theorem dX1_pushes_97 : decode cX1_pushes 97 = .ok (.idiv, 1) := by decide +kernel
theorem dX1_pushes_98 : decode cX1_pushes 98 = .ok (.goto 4, 3) := by decide +kernel
theorem dX1_pushes_101 : decode cX1_pushes 101 = .ok (.iconst 0, 1) := by decide +kernel
theorem dX1_pushes_102 : decode cX1_pushes 102 = .ok (.iastore, 1) := by decide +kernel
theorem dX1_pushes_103 : decode cX1_pushes 103 = .ok (.aload_n 0, 1) := by decide +kernel
theorem dX1_pushes_104 : decode cX1_pushes 104 = .ok (.aload_n 0, 1) := by decide +kernel
theorem dX1_pushes_105 : decode cX1_pushes 105 = .ok (.getfield 19, 3) := by decide +kernel
theorem dX1_pushes_108 : decode cX1_pushes 108 = .ok (.iconst 0, 1) := by decide +kernel
theorem dX1_pushes_109 : decode cX1_pushes 109 = .ok (.iaload, 1) := by decide +kernel
theorem dX1_pushes_110 : decode cX1_pushes 110 = .ok (.i2l, 1) := by decide +kernel
theorem dX1_pushes_111 : decode cX1_pushes 111 = .ok (.aload_n 0, 1) := by decide +kernel
theorem dX1_pushes_112 : decode cX1_pushes 112 = .ok (.getfield 19, 3) := by decide +kernel
theorem dX1_pushes_115 : decode cX1_pushes 115 = .ok (.iconst 1, 1) := by decide +kernel
theorem dX1_pushes_116 : decode cX1_pushes 116 = .ok (.iaload, 1) := by decide +kernel
theorem dX1_pushes_117 : decode cX1_pushes 117 = .ok (.i2l, 1) := by decide +kernel
theorem dX1_pushes_118 : decode cX1_pushes 118 = .ok (.ladd, 1) := by decide +kernel
theorem dX1_pushes_119 : decode cX1_pushes 119 = .ok (.aload_n 0, 1) := by decide +kernel
theorem dX1_pushes_120 : decode cX1_pushes 120 = .ok (.getfield 19, 3) := by decide +kernel
theorem dX1_pushes_123 : decode cX1_pushes 123 = .ok (.iconst 2, 1) := by decide +kernel
theorem dX1_pushes_124 : decode cX1_pushes 124 = .ok (.iaload, 1) := by decide +kernel
theorem dX1_pushes_125 : decode cX1_pushes 125 = .ok (.i2l, 1) := by decide +kernel
theorem dX1_pushes_126 : decode cX1_pushes 126 = .ok (.ladd, 1) := by decide +kernel
theorem dX1_pushes_127 : decode cX1_pushes 127 = .ok (.aload_n 0, 1) := by decide +kernel
theorem dX1_pushes_128 : decode cX1_pushes 128 = .ok (.getfield 19, 3) := by decide +kernel
theorem dX1_pushes_131 : decode cX1_pushes 131 = .ok (.iconst 3, 1) := by decide +kernel
theorem dX1_pushes_132 : decode cX1_pushes 132 = .ok (.iaload, 1) := by decide +kernel
theorem dX1_pushes_133 : decode cX1_pushes 133 = .ok (.i2l, 1) := by decide +kernel
theorem dX1_pushes_134 : decode cX1_pushes 134 = .ok (.ladd, 1) := by decide +kernel
theorem dX1_pushes_135 : decode cX1_pushes 135 = .ok (.sipush 1000, 3) := by decide +kernel
theorem dX1_pushes_138 : decode cX1_pushes 138 = .ok (.invokestatic 135, 3) := by decide +kernel
theorem dX1_pushes_141 : decode cX1_pushes 141 = .ok (.putfield 139, 3) := by decide +kernel
theorem dX1_pushes_144 : decode cX1_pushes 144 = .ok (.return_, 1) := by decide +kernel
set_option maxHeartbeats 4000000 in
theorem cpushes_19 (l : Launch) (adK adV st : Nat → Nat) (D : va_G) (E : Nat → ClassId) (A : Nat → Prop) (ad nv : Nat → Nat) (I : Nat → Int) (F : Nat → Int → Int) (S : Nat → Nat → Int) (Y : Nat → Int → Int) (L : Nat → Nat) (lv : Int) (hlv : -2000 ≤ lv ∧ lv ≤ 4000) (hpp : 0 < pushS (I 1) (F 2) (F 3) (S 19 4) lv) (hn : cOK nv I L) (gh0 : gHull I F) (gs0 : gSea I F) (gl0 : gLoad I F) (gm0 : gMark I F) (gt0 : gSet I) (gr0 : gRule F) (hru : S 0 2 = 0 → F 64 0 = -1 ∧ F 64 1 = -1) (b28 : -80 ≤ S 19 4 ∧ S 19 4 ≤ 80) (b29 : -30 ≤ S 19 5 ∧ S 19 5 ≤ 30) (ht : 0 ≤ S 19 7 ∧ S 19 7 ≤ 1000) (b30 : 0 ≤ S 19 8 ∧ S 19 8 ≤ 100000) (gp0 : Bd (Y 21) 12 (-19) 19) (gw0 : Bd (Y 24) 6 0 1) : CM l yX1_pushes cX1_pushes 2 none (mrm 6) adK adV st D E A ad nv [.ref (ad 19), .int (iI lv)] I F S Y L (CQv D E A ad nv L (fun I1 F1 S1 Y1 => I = I1 ∧ F = F1 ∧ up2 S 19 6 (clampZ (((-(armS (upS (I 1) (F 2) (F 3) (S 19 4) lv) (heavyS (I 4) (F 9) (F 5) (I 10) (F 14)) (pushS (I 1) (F 2) (F 3) (S 19 4) lv) ((downS (I 4) (F 9) (F 5) (Y 21) (F 7) (I 10) (F 14) (F 13) (F 11) (F 12)) (S 19 4)))).tdiv (I 22)) + (seaS (I 18) (F 19) (F 20) (F 21) (S 19 7)) + ((-(S 19 5 * I 23)).tdiv 10) + (if soZ F 1 (nmS I F (S 19 4) (S 19 5) (S 19 7) (S 19 8) (Y 24) (Y 21)) = 0 then 0 else (-(S 19 5 * I 25)).tdiv 4)) 1000) = S1 ∧ ∃ g g1, va_up (va_up (va_up Y 3 g) 2 g1) 22 (updZ (updZ (updZ (updZ (Y 22) 0 ((-(armS (upS (I 1) (F 2) (F 3) (S 19 4) lv) (heavyS (I 4) (F 9) (F 5) (I 10) (F 14)) (pushS (I 1) (F 2) (F 3) (S 19 4) lv) ((downS (I 4) (F 9) (F 5) (Y 21) (F 7) (I 10) (F 14) (F 13) (F 11) (F 12)) (S 19 4)))).tdiv (I 22))) 1 (seaS (I 18) (F 19) (F 20) (F 21) (S 19 7))) 2 ((-(S 19 5 * I 23)).tdiv 10)) 3 (if soZ F 1 (nmS I F (S 19 4) (S 19 5) (S 19 7) (S 19 8) (Y 24) (Y 21)) = 0 then 0 else (-(S 19 5 * I 25)).tdiv 4)) = Y1)) := by
  refine c_start (by decide) rfl (Nat.le_of_ble_eq_true rfl) ?_
  intro p e R s m args below meth c ls Q hR hQ hCK hml hr hlk hG hS hE hl
  have hx := hCK.1
  have hb := hCK.2.1
  have hown := hCK.2.2.1
  have hts := hCK.2.2.2.1
  have hK := hCK.2.2.2.2
  have hl : lv_has ls 2 [(0, .ref (ad 19)), (1, .int (iI lv))] := hl
  obtain ⟨i1, a2, a3⟩ := id gh0
  obtain ⟨i4, a5, a6, a7, a8, a9, i10, a11, a12, a13, a14, a14h⟩ := id gl0
  have hhv := heavyS_bd (lost := F 9) i4 i10 a5 a14
  have hpb : ∀ sl y, 0 ≤ pushS (I 1) (F 2) (F 3) sl y ∧ pushS (I 1) (F 2) (F 3) sl y ≤ 21600 := fun sl y => pushS_bd sl y i1 a2 a3
  have hub : ∀ sl y, -80 ≤ sl ∧ sl ≤ 80 → -69552000 ≤ upS (I 1) (F 2) (F 3) sl y ∧ upS (I 1) (F 2) (F 3) sl y ≤ 69552000 := fun sl y q => upS_bd y q i1 a2 a3
  obtain ⟨t22, t23, t24, t25⟩ := gt0
  have hab := armS_bd (up := upS (I 1) (F 2) (F 3) (S 19 4) lv) (hv := heavyS (I 4) (F 9) (F 5) (I 10) (F 14)) (push := pushS (I 1) (F 2) (F 3) (S 19 4) lv) (down := (downS (I 4) (F 9) (F 5) (Y 21) (F 7) (I 10) (F 14) (F 13) (F 11) (F 12)) (S 19 4)) hpp hhv (up_push lv b28 i1 a2 a3) (downS_bd b28 i4 i10 a5 gp0 a7 a14 a11 a12)
  have hm1 := mul_bd (A := 30) (B := 50) (a := S 19 5) (b := I 23) (by omega) (by omega)
  have hm2 := mul_bd (A := 30) (B := 9) (a := S 19 5) (b := I 25) (by omega) (by omega)
  refine lv_aload_n hx hb dX1_pushes_0 rfl (lv_at hl 0 rfl) ?_
  refine cg_X1_19 hCK hG (r := 19) (Or.inl rfl) dX1_pushes_1 ?_
  refine W.eq (g2 := F0 m 4 ls [.ref (ad 22)]) rfl ?_
  refine r_iconst hx hb dX1_pushes_4 ?_
  refine lv_aload_n hx hb dX1_pushes_5 rfl (lv_at hl 0 rfl) ?_
  refine cg_X1_3 hCK hG (r := 19) (Or.inl rfl) dX1_pushes_6 ?_
  refine lv_aload_n hx hb dX1_pushes_9 rfl (lv_at hl 0 rfl) ?_
  refine cg_X1_35 (v := S 19 4) hCK hG (r := 19) (Or.inl rfl) rfl dX1_pushes_10 ?_
  refine lv_iload_n hx hb dX1_pushes_13 rfl (lv_at hl 1 rfl) ?_
  refine lv_aload_n hx hb dX1_pushes_14 rfl (lv_at hl 0 rfl) ?_
  refine cg_X1_15 hCK hG (r := 19) (Or.inl rfl) dX1_pushes_15 ?_
  refine W.eq (g2 := F0 m 18 ls [.ref (ad 21), .int (iI lv), .int (iI (S 19 4)), .ref (ad 0), .int (iI 0), .ref (ad 22)]) rfl ?_
  refine s_calli (j_runVN (n := 3) (C0 := RX0) (b := ad 0) (rest := [.int (iI 0), .ref (ad 22)]) (as := [.int (iI (S 19 4)), .int (iI lv), .ref (ad 21)]) hx hb hml hown hts hE (carm l adK adV st D E A ad nv I F S Y L (S 19 4) lv 21 (Y 21) (Y 21) (Or.inl (by decide)) (cC_a (r := 21) (by decide)) (fun w _ _ => rfl) gp0 (by omega) (by omega) hpp hn gh0 gl0) GB.blind (GB.at hK hG hE hS) (g_rec (r := 0) (ci := 0) hK hG (Or.inl (by decide)) rfl cC_0) q870 q768 qs21 q68 q769 (by decide +kernel) ⟨rfl, rfl⟩ hR (by decide) ⟨Nat.zero_le _, Nat.zero_le _⟩ rfl hl.1 rfl (Nat.le_of_ble_eq_true rfl) dX1_pushes_18) ?_
  refine r_ineg hx hb dX1_pushes_21 ?_
  refine lv_aload_n hx hb dX1_pushes_22 rfl (lv_at hl 0 rfl) ?_
  refine cg_X1_3 hCK hG (r := 19) (Or.inl rfl) dX1_pushes_23 ?_
  refine cg_X1_122 (v := I 22) hCK hE hG rfl dX1_pushes_26 ?_
  refine r_idiv hx hb dX1_pushes_29 (by omega) (by omega) (by omega) ?_
  refine cs_s1 (r := 19) (z := 0) (v := (-(armS (upS (I 1) (F 2) (F 3) (S 19 4) lv) (heavyS (I 4) (F 9) (F 5) (I 10) (F 14)) (pushS (I 1) (F 2) (F 3) (S 19 4) lv) ((downS (I 4) (F 9) (F 5) (Y 21) (F 7) (I 10) (F 14) (F 13) (F 11) (F 12)) (S 19 4)))).tdiv (I 22)) hCK hG hS (Or.inl rfl) (by decide) dX1_pushes_30 (fun H locs hG hS => ?_)
  have hG : CW D E A ad nv I F S (va_up Y 22 (updZ (Y 22) 0 ((-(armS (upS (I 1) (F 2) (F 3) (S 19 4) lv) (heavyS (I 4) (F 9) (F 5) (I 10) (F 14)) (pushS (I 1) (F 2) (F 3) (S 19 4) lv) ((downS (I 4) (F 9) (F 5) (Y 21) (F 7) (I 10) (F 14) (F 13) (F 11) (F 12)) (S 19 4)))).tdiv (I 22)))) L H := hG
  refine lv_aload_n hx hb dX1_pushes_31 rfl (lv_at hl 0 rfl) ?_
  refine cg_X1_19 hCK hG (r := 19) (Or.inl rfl) dX1_pushes_32 ?_
  refine W.eq (g2 := F0 m 35 ls [.ref (ad 22)]) rfl ?_
  refine r_iconst hx hb dX1_pushes_35 ?_
  refine lv_aload_n hx hb dX1_pushes_36 rfl (lv_at hl 0 rfl) ?_
  refine cg_X1_3 hCK hG (r := 19) (Or.inl rfl) dX1_pushes_37 ?_
  refine lv_aload_n hx hb dX1_pushes_40 rfl (lv_at hl 0 rfl) ?_
  refine cg_X1_42 (v := S 19 7) hCK hG (r := 19) (Or.inl rfl) rfl dX1_pushes_41 ?_
  refine s_calli (j_runVN (n := 1) (C0 := RX0) (b := ad 0) (rest := [.int (iI 1), .ref (ad 22)]) (as := [.int (iI (S 19 7))]) hx hb hml hown hts hE (cseaAt l adK adV st D E A ad nv I F S (va_up Y 22 (updZ (Y 22) 0 ((-(armS (upS (I 1) (F 2) (F 3) (S 19 4) lv) (heavyS (I 4) (F 9) (F 5) (I 10) (F 14)) (pushS (I 1) (F 2) (F 3) (S 19 4) lv) ((downS (I 4) (F 9) (F 5) (Y 21) (F 7) (I 10) (F 14) (F 13) (F 11) (F 12)) (S 19 4)))).tdiv (I 22)))) L (S 19 7) (by omega) hn gs0) GB.blind (GB.at hK hG hE hS) (g_rec (r := 0) (ci := 0) hK hG (Or.inl (by decide)) rfl cC_0) q871 q824 qs23 q68 q825 (by decide +kernel) ⟨rfl, rfl⟩ hR (by decide) ⟨Nat.zero_le _, Nat.zero_le _⟩ rfl hl.1 rfl (Nat.le_of_ble_eq_true rfl) dX1_pushes_44) ?_
  refine cs_s1 (r := 19) (z := 1) (v := seaS (I 18) (F 19) (F 20) (F 21) (S 19 7)) hCK hG hS (Or.inl rfl) (by decide) dX1_pushes_47 (fun H locs hG hS => ?_)
  have hG : CW D E A ad nv I F S (va_up Y 22 (updZ (updZ (Y 22) 0 ((-(armS (upS (I 1) (F 2) (F 3) (S 19 4) lv) (heavyS (I 4) (F 9) (F 5) (I 10) (F 14)) (pushS (I 1) (F 2) (F 3) (S 19 4) lv) ((downS (I 4) (F 9) (F 5) (Y 21) (F 7) (I 10) (F 14) (F 13) (F 11) (F 12)) (S 19 4)))).tdiv (I 22))) 1 (seaS (I 18) (F 19) (F 20) (F 21) (S 19 7)))) L H := by
    have eY : va_up Y 22 (updZ (updZ (Y 22) 0 ((-(armS (upS (I 1) (F 2) (F 3) (S 19 4) lv) (heavyS (I 4) (F 9) (F 5) (I 10) (F 14)) (pushS (I 1) (F 2) (F 3) (S 19 4) lv) ((downS (I 4) (F 9) (F 5) (Y 21) (F 7) (I 10) (F 14) (F 13) (F 11) (F 12)) (S 19 4)))).tdiv (I 22))) 1 (seaS (I 18) (F 19) (F 20) (F 21) (S 19 7))) = va_up (va_up Y 22 (updZ (Y 22) 0 ((-(armS (upS (I 1) (F 2) (F 3) (S 19 4) lv) (heavyS (I 4) (F 9) (F 5) (I 10) (F 14)) (pushS (I 1) (F 2) (F 3) (S 19 4) lv) ((downS (I 4) (F 9) (F 5) (Y 21) (F 7) (I 10) (F 14) (F 13) (F 11) (F 12)) (S 19 4)))).tdiv (I 22)))) 22 (updZ ((va_up Y 22 (updZ (Y 22) 0 ((-(armS (upS (I 1) (F 2) (F 3) (S 19 4) lv) (heavyS (I 4) (F 9) (F 5) (I 10) (F 14)) (pushS (I 1) (F 2) (F 3) (S 19 4) lv) ((downS (I 4) (F 9) (F 5) (Y 21) (F 7) (I 10) (F 14) (F 13) (F 11) (F 12)) (S 19 4)))).tdiv (I 22)))) 22) 1 (seaS (I 18) (F 19) (F 20) (F 21) (S 19 7))) := by
      funext i
      by_cases h1 : i = 22
      · subst h1; simp [va_up]
      · simp [va_up, h1]
    rw [eY]; exact hG
  refine lv_aload_n hx hb dX1_pushes_48 rfl (lv_at hl 0 rfl) ?_
  refine cg_X1_19 hCK hG (r := 19) (Or.inl rfl) dX1_pushes_49 ?_
  refine W.eq (g2 := F0 m 52 ls [.ref (ad 22)]) rfl ?_
  refine r_iconst hx hb dX1_pushes_52 ?_
  refine lv_aload_n hx hb dX1_pushes_53 rfl (lv_at hl 0 rfl) ?_
  refine cg_X1_39 (v := S 19 5) hCK hG (r := 19) (Or.inl rfl) rfl dX1_pushes_54 ?_
  refine lv_aload_n hx hb dX1_pushes_57 rfl (lv_at hl 0 rfl) ?_
  refine cg_X1_3 hCK hG (r := 19) (Or.inl rfl) dX1_pushes_58 ?_
  refine cg_X1_125 (v := I 23) hCK hE hG rfl dX1_pushes_61 ?_
  refine r_imul hx hb dX1_pushes_64 ?_
  refine r_ineg hx hb dX1_pushes_65 ?_
  refine r_bipush hx hb dX1_pushes_66 (by decide) ?_
  refine r_idiv hx hb dX1_pushes_68 (by omega) (by decide) (by decide) ?_
  refine cs_s1 (r := 19) (z := 2) (v := (-((S 19 5) * (I 23))).tdiv 10) hCK hG hS (Or.inl rfl) (by decide) dX1_pushes_69 (fun H locs hG hS => ?_)
  have hG : CW D E A ad nv I F S (va_up Y 22 (updZ (updZ (updZ (Y 22) 0 ((-(armS (upS (I 1) (F 2) (F 3) (S 19 4) lv) (heavyS (I 4) (F 9) (F 5) (I 10) (F 14)) (pushS (I 1) (F 2) (F 3) (S 19 4) lv) ((downS (I 4) (F 9) (F 5) (Y 21) (F 7) (I 10) (F 14) (F 13) (F 11) (F 12)) (S 19 4)))).tdiv (I 22))) 1 (seaS (I 18) (F 19) (F 20) (F 21) (S 19 7))) 2 ((-((S 19 5) * (I 23))).tdiv 10))) L H := by
    have eY : va_up Y 22 (updZ (updZ (updZ (Y 22) 0 ((-(armS (upS (I 1) (F 2) (F 3) (S 19 4) lv) (heavyS (I 4) (F 9) (F 5) (I 10) (F 14)) (pushS (I 1) (F 2) (F 3) (S 19 4) lv) ((downS (I 4) (F 9) (F 5) (Y 21) (F 7) (I 10) (F 14) (F 13) (F 11) (F 12)) (S 19 4)))).tdiv (I 22))) 1 (seaS (I 18) (F 19) (F 20) (F 21) (S 19 7))) 2 ((-((S 19 5) * (I 23))).tdiv 10)) = va_up (va_up Y 22 (updZ (updZ (Y 22) 0 ((-(armS (upS (I 1) (F 2) (F 3) (S 19 4) lv) (heavyS (I 4) (F 9) (F 5) (I 10) (F 14)) (pushS (I 1) (F 2) (F 3) (S 19 4) lv) ((downS (I 4) (F 9) (F 5) (Y 21) (F 7) (I 10) (F 14) (F 13) (F 11) (F 12)) (S 19 4)))).tdiv (I 22))) 1 (seaS (I 18) (F 19) (F 20) (F 21) (S 19 7)))) 22 (updZ ((va_up Y 22 (updZ (updZ (Y 22) 0 ((-(armS (upS (I 1) (F 2) (F 3) (S 19 4) lv) (heavyS (I 4) (F 9) (F 5) (I 10) (F 14)) (pushS (I 1) (F 2) (F 3) (S 19 4) lv) ((downS (I 4) (F 9) (F 5) (Y 21) (F 7) (I 10) (F 14) (F 13) (F 11) (F 12)) (S 19 4)))).tdiv (I 22))) 1 (seaS (I 18) (F 19) (F 20) (F 21) (S 19 7)))) 22) 2 ((-((S 19 5) * (I 23))).tdiv 10)) := by
      funext i
      by_cases h1 : i = 22
      · subst h1; simp [va_up]
      · simp [va_up, h1]
    rw [eY]; exact hG
  refine lv_aload_n hx hb dX1_pushes_70 rfl (lv_at hl 0 rfl) ?_
  refine cg_X1_19 hCK hG (r := 19) (Or.inl rfl) dX1_pushes_71 ?_
  refine W.eq (g2 := F0 m 74 ls [.ref (ad 22)]) rfl ?_
  refine r_iconst hx hb dX1_pushes_74 ?_
  refine lv_aload_n hx hb dX1_pushes_75 rfl (lv_at hl 0 rfl) ?_
  refine r_iconst hx hb dX1_pushes_76 ?_
  refine c_calli (c_run (n := 1) (C0 := RX1) (b := ad 19) (rest := [.int (iI 3), .ref (ad 22)]) (as := [.int (iI 1)]) hCK hE hml (cholds_19 l adK adV st D E A ad nv I F S (va_up Y 22 (updZ (updZ (updZ (Y 22) 0 ((-(armS (upS (I 1) (F 2) (F 3) (S 19 4) lv) (heavyS (I 4) (F 9) (F 5) (I 10) (F 14)) (pushS (I 1) (F 2) (F 3) (S 19 4) lv) ((downS (I 4) (F 9) (F 5) (Y 21) (F 7) (I 10) (F 14) (F 13) (F 11) (F 12)) (S 19 4)))).tdiv (I 22))) 1 (seaS (I 18) (F 19) (F 20) (F 21) (S 19 7))) 2 ((-((S 19 5) * (I 23))).tdiv 10))) L 1 (by decide) hn gs0 gl0 gm0 gr0 hru b28 b29 ht b30 gp0 gw0) (g_rec (r := 19) (ci := 1) hK hG (Or.inl (by omega)) rfl (cC_s (Or.inl rfl))) q872 q873 q874 q72 q875 (by decide +kernel) ⟨rfl, rfl⟩ hR (by decide) ⟨Nat.zero_le _, Nat.zero_le _⟩ hG hS rfl hl.1 rfl (Nat.le_of_ble_eq_true rfl) dX1_pushes_77) hS (fun z2 I3 F4 S5 Y6 H locs hp7 hG hS => ?_)
  obtain ⟨rfl, rfl, rfl, rfl, gh0, gk0, rfl⟩ := hp7
  have hG : CW D E A ad nv I F S (va_up (va_up (va_up Y 22 (updZ (updZ (updZ (Y 22) 0 ((-(armS (upS (I 1) (F 2) (F 3) (S 19 4) lv) (heavyS (I 4) (F 9) (F 5) (I 10) (F 14)) (pushS (I 1) (F 2) (F 3) (S 19 4) lv) ((downS (I 4) (F 9) (F 5) (Y 21) (F 7) (I 10) (F 14) (F 13) (F 11) (F 12)) (S 19 4)))).tdiv (I 22))) 1 (seaS (I 18) (F 19) (F 20) (F 21) (S 19 7))) 2 ((-((S 19 5) * (I 23))).tdiv 10))) 3 gh0) 2 gk0) L H := hG
  refine W.eq (g2 := F0 m 80 ls [.int (iI (soZ F 1 (nmS I F (S 19 4) (S 19 5) (S 19 7) (S 19 8) (Y 24) (Y 21)))), .int (iI 3), .ref (ad 22)]) rfl ?_
  have d0 := tdiv_bd (a := -(armS (upS (I 1) (F 2) (F 3) (S 19 4) lv) (heavyS (I 4) (F 9) (F 5) (I 10) (F 14)) (pushS (I 1) (F 2) (F 3) (S 19 4) lv) ((downS (I 4) (F 9) (F 5) (Y 21) (F 7) (I 10) (F 14) (F 13) (F 11) (F 12)) (S 19 4)))) (b := I 22) (M := 144024000) (by omega) (by omega)
  have d1 := seaS_bd (per := F 20) (pha := F 21) (S 19 7) gs0.1 gs0.2.2.1
  have d2 := tdiv_bd (a := -(S 19 5 * I 23)) (b := 10) (M := 1500) (by decide) (by omega)
  have d3 := tdiv_bd (a := -(S 19 5 * I 25)) (b := 4) (M := 270) (by decide) (by omega)
  have d3i : -270 ≤ (if soZ F 1 (nmS I F (S 19 4) (S 19 5) (S 19 7) (S 19 8) (Y 24) (Y 21)) = 0 then 0 else (-(S 19 5 * I 25)).tdiv 4) ∧ (if soZ F 1 (nmS I F (S 19 4) (S 19 5) (S 19 7) (S 19 8) (Y 24) (Y 21)) = 0 then 0 else (-(S 19 5 * I 25)).tdiv 4) ≤ 270 := by split <;> omega
  have jn8 : W p l e R s m args below meth c H locs 0 0 Q (F0 m 102 ls [.int (iI (if soZ F 1 (nmS I F (S 19 4) (S 19 5) (S 19 7) (S 19 8) (Y 24) (Y 21)) = 0 then 0 else (-(S 19 5 * I 25)).tdiv 4)), .int (iI 3), .ref (ad 22)]) := by
    refine cs_s1 (r := 19) (z := 3) (v := if soZ F 1 (nmS I F (S 19 4) (S 19 5) (S 19 7) (S 19 8) (Y 24) (Y 21)) = 0 then 0 else (-(S 19 5 * I 25)).tdiv 4) hCK hG hS (Or.inl rfl) (by decide) dX1_pushes_102 (fun H locs hG hS => ?_)
    have hG : CW D E A ad nv I F S (va_up (va_up (va_up Y 3 gh0) 2 gk0) 22 (updZ (updZ (updZ (updZ (Y 22) 0 ((-(armS (upS (I 1) (F 2) (F 3) (S 19 4) lv) (heavyS (I 4) (F 9) (F 5) (I 10) (F 14)) (pushS (I 1) (F 2) (F 3) (S 19 4) lv) ((downS (I 4) (F 9) (F 5) (Y 21) (F 7) (I 10) (F 14) (F 13) (F 11) (F 12)) (S 19 4)))).tdiv (I 22))) 1 (seaS (I 18) (F 19) (F 20) (F 21) (S 19 7))) 2 ((-((S 19 5) * (I 23))).tdiv 10)) 3 (if soZ F 1 (nmS I F (S 19 4) (S 19 5) (S 19 7) (S 19 8) (Y 24) (Y 21)) = 0 then 0 else (-(S 19 5 * I 25)).tdiv 4))) L H := by
      have eY : va_up (va_up (va_up Y 3 gh0) 2 gk0) 22 (updZ (updZ (updZ (updZ (Y 22) 0 ((-(armS (upS (I 1) (F 2) (F 3) (S 19 4) lv) (heavyS (I 4) (F 9) (F 5) (I 10) (F 14)) (pushS (I 1) (F 2) (F 3) (S 19 4) lv) ((downS (I 4) (F 9) (F 5) (Y 21) (F 7) (I 10) (F 14) (F 13) (F 11) (F 12)) (S 19 4)))).tdiv (I 22))) 1 (seaS (I 18) (F 19) (F 20) (F 21) (S 19 7))) 2 ((-((S 19 5) * (I 23))).tdiv 10)) 3 (if soZ F 1 (nmS I F (S 19 4) (S 19 5) (S 19 7) (S 19 8) (Y 24) (Y 21)) = 0 then 0 else (-(S 19 5 * I 25)).tdiv 4)) = va_up (va_up (va_up (va_up Y 22 (updZ (updZ (updZ (Y 22) 0 ((-(armS (upS (I 1) (F 2) (F 3) (S 19 4) lv) (heavyS (I 4) (F 9) (F 5) (I 10) (F 14)) (pushS (I 1) (F 2) (F 3) (S 19 4) lv) ((downS (I 4) (F 9) (F 5) (Y 21) (F 7) (I 10) (F 14) (F 13) (F 11) (F 12)) (S 19 4)))).tdiv (I 22))) 1 (seaS (I 18) (F 19) (F 20) (F 21) (S 19 7))) 2 ((-((S 19 5) * (I 23))).tdiv 10))) 3 gh0) 2 gk0) 22 (updZ ((va_up (va_up (va_up Y 22 (updZ (updZ (updZ (Y 22) 0 ((-(armS (upS (I 1) (F 2) (F 3) (S 19 4) lv) (heavyS (I 4) (F 9) (F 5) (I 10) (F 14)) (pushS (I 1) (F 2) (F 3) (S 19 4) lv) ((downS (I 4) (F 9) (F 5) (Y 21) (F 7) (I 10) (F 14) (F 13) (F 11) (F 12)) (S 19 4)))).tdiv (I 22))) 1 (seaS (I 18) (F 19) (F 20) (F 21) (S 19 7))) 2 ((-((S 19 5) * (I 23))).tdiv 10))) 3 gh0) 2 gk0) 22) 3 (if soZ F 1 (nmS I F (S 19 4) (S 19 5) (S 19 7) (S 19 8) (Y 24) (Y 21)) = 0 then 0 else (-(S 19 5 * I 25)).tdiv 4)) := by
        funext i
        by_cases h1 : i = 22
        · subst h1; simp [va_up]
        · simp [va_up, h1]
      rw [eY]; exact hG
    refine lv_aload_n hx hb dX1_pushes_103 rfl (lv_at hl 0 rfl) ?_
    refine lv_aload_n hx hb dX1_pushes_104 rfl (lv_at hl 0 rfl) ?_
    refine cg_X1_19 hCK hG (r := 19) (Or.inl rfl) dX1_pushes_105 ?_
    refine W.eq (g2 := F0 m 108 ls [.ref (ad 22), .ref (ad 19)]) rfl ?_
    refine r_iconst hx hb dX1_pushes_108 ?_
    refine cl_s1 (v := (-(armS (upS (I 1) (F 2) (F 3) (S 19 4) lv) (heavyS (I 4) (F 9) (F 5) (I 10) (F 14)) (pushS (I 1) (F 2) (F 3) (S 19 4) lv) ((downS (I 4) (F 9) (F 5) (Y 21) (F 7) (I 10) (F 14) (F 13) (F 11) (F 12)) (S 19 4)))).tdiv (I 22)) (r := 19) hCK hG (Or.inl rfl) (by decide) (by simp [va_up, updZ]) dX1_pushes_109 ?_
    refine r_i2l hx hb dX1_pushes_110 (by omega) ?_
    refine lv_aload_n hx hb dX1_pushes_111 rfl (lv_at hl 0 rfl) ?_
    refine cg_X1_19 hCK hG (r := 19) (Or.inl rfl) dX1_pushes_112 ?_
    refine W.eq (g2 := F0 m 115 ls [.ref (ad 22), .long (iL ((-(armS (upS (I 1) (F 2) (F 3) (S 19 4) lv) (heavyS (I 4) (F 9) (F 5) (I 10) (F 14)) (pushS (I 1) (F 2) (F 3) (S 19 4) lv) ((downS (I 4) (F 9) (F 5) (Y 21) (F 7) (I 10) (F 14) (F 13) (F 11) (F 12)) (S 19 4)))).tdiv (I 22))), .ref (ad 19)]) rfl ?_
    refine r_iconst hx hb dX1_pushes_115 ?_
    refine cl_s1 (v := seaS (I 18) (F 19) (F 20) (F 21) (S 19 7)) (r := 19) hCK hG (Or.inl rfl) (by decide) (by simp [va_up, updZ]) dX1_pushes_116 ?_
    refine r_i2l hx hb dX1_pushes_117 (by omega) ?_
    refine r_ladd hx hb dX1_pushes_118 ?_
    refine lv_aload_n hx hb dX1_pushes_119 rfl (lv_at hl 0 rfl) ?_
    refine cg_X1_19 hCK hG (r := 19) (Or.inl rfl) dX1_pushes_120 ?_
    refine W.eq (g2 := F0 m 123 ls [.ref (ad 22), .long (iL (((-(armS (upS (I 1) (F 2) (F 3) (S 19 4) lv) (heavyS (I 4) (F 9) (F 5) (I 10) (F 14)) (pushS (I 1) (F 2) (F 3) (S 19 4) lv) ((downS (I 4) (F 9) (F 5) (Y 21) (F 7) (I 10) (F 14) (F 13) (F 11) (F 12)) (S 19 4)))).tdiv (I 22)) + (seaS (I 18) (F 19) (F 20) (F 21) (S 19 7)))), .ref (ad 19)]) rfl ?_
    refine r_iconst hx hb dX1_pushes_123 ?_
    refine cl_s1 (v := (-(S 19 5 * I 23)).tdiv 10) (r := 19) hCK hG (Or.inl rfl) (by decide) (by simp [va_up, updZ]) dX1_pushes_124 ?_
    refine r_i2l hx hb dX1_pushes_125 (by omega) ?_
    refine r_ladd hx hb dX1_pushes_126 ?_
    refine lv_aload_n hx hb dX1_pushes_127 rfl (lv_at hl 0 rfl) ?_
    refine cg_X1_19 hCK hG (r := 19) (Or.inl rfl) dX1_pushes_128 ?_
    refine W.eq (g2 := F0 m 131 ls [.ref (ad 22), .long (iL ((((-(armS (upS (I 1) (F 2) (F 3) (S 19 4) lv) (heavyS (I 4) (F 9) (F 5) (I 10) (F 14)) (pushS (I 1) (F 2) (F 3) (S 19 4) lv) ((downS (I 4) (F 9) (F 5) (Y 21) (F 7) (I 10) (F 14) (F 13) (F 11) (F 12)) (S 19 4)))).tdiv (I 22)) + (seaS (I 18) (F 19) (F 20) (F 21) (S 19 7))) + ((-(S 19 5 * I 23)).tdiv 10))), .ref (ad 19)]) rfl ?_
    refine r_iconst hx hb dX1_pushes_131 ?_
    refine cl_s1 (v := if soZ F 1 (nmS I F (S 19 4) (S 19 5) (S 19 7) (S 19 8) (Y 24) (Y 21)) = 0 then 0 else (-(S 19 5 * I 25)).tdiv 4) (r := 19) hCK hG (Or.inl rfl) (by decide) (by simp [va_up, updZ]) dX1_pushes_132 ?_
    refine r_i2l hx hb dX1_pushes_133 (by omega) ?_
    refine r_ladd hx hb dX1_pushes_134 ?_
    refine r_sipush hx hb dX1_pushes_135 (by decide) ?_
    refine s_calli (j_runSN (n := 2) (rest := [.ref (ad 19)]) (as := [.long (iL (((((-(armS (upS (I 1) (F 2) (F 3) (S 19 4) lv) (heavyS (I 4) (F 9) (F 5) (I 10) (F 14)) (pushS (I 1) (F 2) (F 3) (S 19 4) lv) ((downS (I 4) (F 9) (F 5) (Y 21) (F 7) (I 10) (F 14) (F 13) (F 11) (F 12)) (S 19 4)))).tdiv (I 22)) + (seaS (I 18) (F 19) (F 20) (F 21) (S 19 7))) + ((-(S 19 5 * I 23)).tdiv 10)) + (if soZ F 1 (nmS I F (S 19 4) (S 19 5) (S 19 7) (S 19 8) (Y 24) (Y 21)) = 0 then 0 else (-(S 19 5 * I 25)).tdiv 4))), .int (iI 1000)]) hx hb hml hown hts hE ((cbrought l (((((-(armS (upS (I 1) (F 2) (F 3) (S 19 4) lv) (heavyS (I 4) (F 9) (F 5) (I 10) (F 14)) (pushS (I 1) (F 2) (F 3) (S 19 4) lv) ((downS (I 4) (F 9) (F 5) (Y 21) (F 7) (I 10) (F 14) (F 13) (F 11) (F 12)) (S 19 4)))).tdiv (I 22)) + (seaS (I 18) (F 19) (F 20) (F 21) (S 19 7))) + ((-(S 19 5 * I 23)).tdiv 10)) + (if soZ F 1 (nmS I F (S 19 4) (S 19 5) (S 19 7) (S 19 8) (Y 24) (Y 21)) = 0 then 0 else (-(S 19 5 * I 25)).tdiv 4)) 1000 (by omega) (by decide)).jm) (fun _ _ _ _ _ => trivial) (fun _ _ _ => trivial) q900 q901 q68 q902 (by decide +kernel) ⟨rfl, rfl⟩ hR (by decide) ⟨Nat.zero_le _, Nat.zero_le _⟩ rfl hl.1 rfl (Nat.le_of_ble_eq_true rfl) dX1_pushes_138) ?_
    refine cp_X1_139 (r := 19) hCK hG hS (Or.inl rfl) dX1_pushes_141 (fun H locs hG hS => ?_)
    exact c_vret hCK hQ hr hlk hG hS dX1_pushes_144 (⟨rfl, rfl, rfl, ⟨_, _, rfl⟩⟩)
  refine r_if_eq (tgt := 101) hx hb dX1_pushes_80 (by decide) (by rcases soZ_01 F 1 (nmS I F (S 19 4) (S 19 5) (S 19 7) (S 19 8) (Y 24) (Y 21)) with q | q <;> omega) (fun c9 => ?_) (fun c9 => ?_)
  · refine r_iconst hx hb dX1_pushes_101 ?_
    rw [if_pos (by omega)] at jn8
    exact jn8
  · refine lv_aload_n hx hb dX1_pushes_83 rfl (lv_at hl 0 rfl) ?_
    refine cg_X1_39 (v := S 19 5) hCK hG (r := 19) (Or.inl rfl) rfl dX1_pushes_84 ?_
    refine lv_aload_n hx hb dX1_pushes_87 rfl (lv_at hl 0 rfl) ?_
    refine cg_X1_3 hCK hG (r := 19) (Or.inl rfl) dX1_pushes_88 ?_
    refine cg_X1_132 (v := I 25) hCK hE hG rfl dX1_pushes_91 ?_
    refine r_imul hx hb dX1_pushes_94 ?_
    refine r_ineg hx hb dX1_pushes_95 ?_
    refine r_iconst hx hb dX1_pushes_96 ?_
    refine r_idiv hx hb dX1_pushes_97 (by omega) (by decide) (by decide) ?_
    refine lv_goto (tgt := 102) hx hb dX1_pushes_98 (by decide) ?_
    rw [if_neg (by omega)] at jn8
    exact jn8
set_option maxHeartbeats 4000000 in
theorem cpushes_20 (l : Launch) (adK adV st : Nat → Nat) (D : va_G) (E : Nat → ClassId) (A : Nat → Prop) (ad nv : Nat → Nat) (I : Nat → Int) (F : Nat → Int → Int) (S : Nat → Nat → Int) (Y : Nat → Int → Int) (L : Nat → Nat) (lv : Int) (hlv : -2000 ≤ lv ∧ lv ≤ 4000) (hpp : 0 < pushS (I 1) (F 2) (F 3) (S 20 4) lv) (hn : cOK nv I L) (gh0 : gHull I F) (gs0 : gSea I F) (gl0 : gLoad I F) (gm0 : gMark I F) (gt0 : gSet I) (gr0 : gRule F) (hru : S 0 2 = 0 → F 64 0 = -1 ∧ F 64 1 = -1) (b28 : -80 ≤ S 20 4 ∧ S 20 4 ≤ 80) (b29 : -30 ≤ S 20 5 ∧ S 20 5 ≤ 30) (ht : 0 ≤ S 20 7 ∧ S 20 7 ≤ 1000) (b30 : 0 ≤ S 20 8 ∧ S 20 8 ≤ 100000) (gp0 : Bd (Y 25) 12 (-19) 19) (gw0 : Bd (Y 28) 6 0 1) : CM l yX1_pushes cX1_pushes 2 none (mrm 6) adK adV st D E A ad nv [.ref (ad 20), .int (iI lv)] I F S Y L (CQv D E A ad nv L (fun I1 F1 S1 Y1 => I = I1 ∧ F = F1 ∧ up2 S 20 6 (clampZ (((-(armS (upS (I 1) (F 2) (F 3) (S 20 4) lv) (heavyS (I 4) (F 9) (F 5) (I 10) (F 14)) (pushS (I 1) (F 2) (F 3) (S 20 4) lv) ((downS (I 4) (F 9) (F 5) (Y 25) (F 7) (I 10) (F 14) (F 13) (F 11) (F 12)) (S 20 4)))).tdiv (I 22)) + (seaS (I 18) (F 19) (F 20) (F 21) (S 20 7)) + ((-(S 20 5 * I 23)).tdiv 10) + (if soZ F 1 (nmS I F (S 20 4) (S 20 5) (S 20 7) (S 20 8) (Y 28) (Y 25)) = 0 then 0 else (-(S 20 5 * I 25)).tdiv 4)) 1000) = S1 ∧ ∃ g g1, va_up (va_up (va_up Y 3 g) 2 g1) 26 (updZ (updZ (updZ (updZ (Y 26) 0 ((-(armS (upS (I 1) (F 2) (F 3) (S 20 4) lv) (heavyS (I 4) (F 9) (F 5) (I 10) (F 14)) (pushS (I 1) (F 2) (F 3) (S 20 4) lv) ((downS (I 4) (F 9) (F 5) (Y 25) (F 7) (I 10) (F 14) (F 13) (F 11) (F 12)) (S 20 4)))).tdiv (I 22))) 1 (seaS (I 18) (F 19) (F 20) (F 21) (S 20 7))) 2 ((-(S 20 5 * I 23)).tdiv 10)) 3 (if soZ F 1 (nmS I F (S 20 4) (S 20 5) (S 20 7) (S 20 8) (Y 28) (Y 25)) = 0 then 0 else (-(S 20 5 * I 25)).tdiv 4)) = Y1)) := by
  refine c_start (by decide) rfl (Nat.le_of_ble_eq_true rfl) ?_
  intro p e R s m args below meth c ls Q hR hQ hCK hml hr hlk hG hS hE hl
  have hx := hCK.1
  have hb := hCK.2.1
  have hown := hCK.2.2.1
  have hts := hCK.2.2.2.1
  have hK := hCK.2.2.2.2
  have hl : lv_has ls 2 [(0, .ref (ad 20)), (1, .int (iI lv))] := hl
  obtain ⟨i1, a2, a3⟩ := id gh0
  obtain ⟨i4, a5, a6, a7, a8, a9, i10, a11, a12, a13, a14, a14h⟩ := id gl0
  have hhv := heavyS_bd (lost := F 9) i4 i10 a5 a14
  have hpb : ∀ sl y, 0 ≤ pushS (I 1) (F 2) (F 3) sl y ∧ pushS (I 1) (F 2) (F 3) sl y ≤ 21600 := fun sl y => pushS_bd sl y i1 a2 a3
  have hub : ∀ sl y, -80 ≤ sl ∧ sl ≤ 80 → -69552000 ≤ upS (I 1) (F 2) (F 3) sl y ∧ upS (I 1) (F 2) (F 3) sl y ≤ 69552000 := fun sl y q => upS_bd y q i1 a2 a3
  obtain ⟨t22, t23, t24, t25⟩ := gt0
  have hab := armS_bd (up := upS (I 1) (F 2) (F 3) (S 20 4) lv) (hv := heavyS (I 4) (F 9) (F 5) (I 10) (F 14)) (push := pushS (I 1) (F 2) (F 3) (S 20 4) lv) (down := (downS (I 4) (F 9) (F 5) (Y 25) (F 7) (I 10) (F 14) (F 13) (F 11) (F 12)) (S 20 4)) hpp hhv (up_push lv b28 i1 a2 a3) (downS_bd b28 i4 i10 a5 gp0 a7 a14 a11 a12)
  have hm1 := mul_bd (A := 30) (B := 50) (a := S 20 5) (b := I 23) (by omega) (by omega)
  have hm2 := mul_bd (A := 30) (B := 9) (a := S 20 5) (b := I 25) (by omega) (by omega)
  refine lv_aload_n hx hb dX1_pushes_0 rfl (lv_at hl 0 rfl) ?_
  refine cg_X1_19 hCK hG (r := 20) (Or.inr rfl) dX1_pushes_1 ?_
  refine W.eq (g2 := F0 m 4 ls [.ref (ad 26)]) rfl ?_
  refine r_iconst hx hb dX1_pushes_4 ?_
  refine lv_aload_n hx hb dX1_pushes_5 rfl (lv_at hl 0 rfl) ?_
  refine cg_X1_3 hCK hG (r := 20) (Or.inr rfl) dX1_pushes_6 ?_
  refine lv_aload_n hx hb dX1_pushes_9 rfl (lv_at hl 0 rfl) ?_
  refine cg_X1_35 (v := S 20 4) hCK hG (r := 20) (Or.inr rfl) rfl dX1_pushes_10 ?_
  refine lv_iload_n hx hb dX1_pushes_13 rfl (lv_at hl 1 rfl) ?_
  refine lv_aload_n hx hb dX1_pushes_14 rfl (lv_at hl 0 rfl) ?_
  refine cg_X1_15 hCK hG (r := 20) (Or.inr rfl) dX1_pushes_15 ?_
  refine W.eq (g2 := F0 m 18 ls [.ref (ad 25), .int (iI lv), .int (iI (S 20 4)), .ref (ad 0), .int (iI 0), .ref (ad 26)]) rfl ?_
  refine s_calli (j_runVN (n := 3) (C0 := RX0) (b := ad 0) (rest := [.int (iI 0), .ref (ad 26)]) (as := [.int (iI (S 20 4)), .int (iI lv), .ref (ad 25)]) hx hb hml hown hts hE (carm l adK adV st D E A ad nv I F S Y L (S 20 4) lv 25 (Y 25) (Y 25) (Or.inl (by decide)) (cC_a (r := 25) (by decide)) (fun w _ _ => rfl) gp0 (by omega) (by omega) hpp hn gh0 gl0) GB.blind (GB.at hK hG hE hS) (g_rec (r := 0) (ci := 0) hK hG (Or.inl (by decide)) rfl cC_0) q870 q768 qs21 q68 q769 (by decide +kernel) ⟨rfl, rfl⟩ hR (by decide) ⟨Nat.zero_le _, Nat.zero_le _⟩ rfl hl.1 rfl (Nat.le_of_ble_eq_true rfl) dX1_pushes_18) ?_
  refine r_ineg hx hb dX1_pushes_21 ?_
  refine lv_aload_n hx hb dX1_pushes_22 rfl (lv_at hl 0 rfl) ?_
  refine cg_X1_3 hCK hG (r := 20) (Or.inr rfl) dX1_pushes_23 ?_
  refine cg_X1_122 (v := I 22) hCK hE hG rfl dX1_pushes_26 ?_
  refine r_idiv hx hb dX1_pushes_29 (by omega) (by omega) (by omega) ?_
  refine cs_s1 (r := 20) (z := 0) (v := (-(armS (upS (I 1) (F 2) (F 3) (S 20 4) lv) (heavyS (I 4) (F 9) (F 5) (I 10) (F 14)) (pushS (I 1) (F 2) (F 3) (S 20 4) lv) ((downS (I 4) (F 9) (F 5) (Y 25) (F 7) (I 10) (F 14) (F 13) (F 11) (F 12)) (S 20 4)))).tdiv (I 22)) hCK hG hS (Or.inr rfl) (by decide) dX1_pushes_30 (fun H locs hG hS => ?_)
  have hG : CW D E A ad nv I F S (va_up Y 26 (updZ (Y 26) 0 ((-(armS (upS (I 1) (F 2) (F 3) (S 20 4) lv) (heavyS (I 4) (F 9) (F 5) (I 10) (F 14)) (pushS (I 1) (F 2) (F 3) (S 20 4) lv) ((downS (I 4) (F 9) (F 5) (Y 25) (F 7) (I 10) (F 14) (F 13) (F 11) (F 12)) (S 20 4)))).tdiv (I 22)))) L H := hG
  refine lv_aload_n hx hb dX1_pushes_31 rfl (lv_at hl 0 rfl) ?_
  refine cg_X1_19 hCK hG (r := 20) (Or.inr rfl) dX1_pushes_32 ?_
  refine W.eq (g2 := F0 m 35 ls [.ref (ad 26)]) rfl ?_
  refine r_iconst hx hb dX1_pushes_35 ?_
  refine lv_aload_n hx hb dX1_pushes_36 rfl (lv_at hl 0 rfl) ?_
  refine cg_X1_3 hCK hG (r := 20) (Or.inr rfl) dX1_pushes_37 ?_
  refine lv_aload_n hx hb dX1_pushes_40 rfl (lv_at hl 0 rfl) ?_
  refine cg_X1_42 (v := S 20 7) hCK hG (r := 20) (Or.inr rfl) rfl dX1_pushes_41 ?_
  refine s_calli (j_runVN (n := 1) (C0 := RX0) (b := ad 0) (rest := [.int (iI 1), .ref (ad 26)]) (as := [.int (iI (S 20 7))]) hx hb hml hown hts hE (cseaAt l adK adV st D E A ad nv I F S (va_up Y 26 (updZ (Y 26) 0 ((-(armS (upS (I 1) (F 2) (F 3) (S 20 4) lv) (heavyS (I 4) (F 9) (F 5) (I 10) (F 14)) (pushS (I 1) (F 2) (F 3) (S 20 4) lv) ((downS (I 4) (F 9) (F 5) (Y 25) (F 7) (I 10) (F 14) (F 13) (F 11) (F 12)) (S 20 4)))).tdiv (I 22)))) L (S 20 7) (by omega) hn gs0) GB.blind (GB.at hK hG hE hS) (g_rec (r := 0) (ci := 0) hK hG (Or.inl (by decide)) rfl cC_0) q871 q824 qs23 q68 q825 (by decide +kernel) ⟨rfl, rfl⟩ hR (by decide) ⟨Nat.zero_le _, Nat.zero_le _⟩ rfl hl.1 rfl (Nat.le_of_ble_eq_true rfl) dX1_pushes_44) ?_
  refine cs_s1 (r := 20) (z := 1) (v := seaS (I 18) (F 19) (F 20) (F 21) (S 20 7)) hCK hG hS (Or.inr rfl) (by decide) dX1_pushes_47 (fun H locs hG hS => ?_)
  have hG : CW D E A ad nv I F S (va_up Y 26 (updZ (updZ (Y 26) 0 ((-(armS (upS (I 1) (F 2) (F 3) (S 20 4) lv) (heavyS (I 4) (F 9) (F 5) (I 10) (F 14)) (pushS (I 1) (F 2) (F 3) (S 20 4) lv) ((downS (I 4) (F 9) (F 5) (Y 25) (F 7) (I 10) (F 14) (F 13) (F 11) (F 12)) (S 20 4)))).tdiv (I 22))) 1 (seaS (I 18) (F 19) (F 20) (F 21) (S 20 7)))) L H := by
    have eY : va_up Y 26 (updZ (updZ (Y 26) 0 ((-(armS (upS (I 1) (F 2) (F 3) (S 20 4) lv) (heavyS (I 4) (F 9) (F 5) (I 10) (F 14)) (pushS (I 1) (F 2) (F 3) (S 20 4) lv) ((downS (I 4) (F 9) (F 5) (Y 25) (F 7) (I 10) (F 14) (F 13) (F 11) (F 12)) (S 20 4)))).tdiv (I 22))) 1 (seaS (I 18) (F 19) (F 20) (F 21) (S 20 7))) = va_up (va_up Y 26 (updZ (Y 26) 0 ((-(armS (upS (I 1) (F 2) (F 3) (S 20 4) lv) (heavyS (I 4) (F 9) (F 5) (I 10) (F 14)) (pushS (I 1) (F 2) (F 3) (S 20 4) lv) ((downS (I 4) (F 9) (F 5) (Y 25) (F 7) (I 10) (F 14) (F 13) (F 11) (F 12)) (S 20 4)))).tdiv (I 22)))) 26 (updZ ((va_up Y 26 (updZ (Y 26) 0 ((-(armS (upS (I 1) (F 2) (F 3) (S 20 4) lv) (heavyS (I 4) (F 9) (F 5) (I 10) (F 14)) (pushS (I 1) (F 2) (F 3) (S 20 4) lv) ((downS (I 4) (F 9) (F 5) (Y 25) (F 7) (I 10) (F 14) (F 13) (F 11) (F 12)) (S 20 4)))).tdiv (I 22)))) 26) 1 (seaS (I 18) (F 19) (F 20) (F 21) (S 20 7))) := by
      funext i
      by_cases h1 : i = 26
      · subst h1; simp [va_up]
      · simp [va_up, h1]
    rw [eY]; exact hG
  refine lv_aload_n hx hb dX1_pushes_48 rfl (lv_at hl 0 rfl) ?_
  refine cg_X1_19 hCK hG (r := 20) (Or.inr rfl) dX1_pushes_49 ?_
  refine W.eq (g2 := F0 m 52 ls [.ref (ad 26)]) rfl ?_
  refine r_iconst hx hb dX1_pushes_52 ?_
  refine lv_aload_n hx hb dX1_pushes_53 rfl (lv_at hl 0 rfl) ?_
  refine cg_X1_39 (v := S 20 5) hCK hG (r := 20) (Or.inr rfl) rfl dX1_pushes_54 ?_
  refine lv_aload_n hx hb dX1_pushes_57 rfl (lv_at hl 0 rfl) ?_
  refine cg_X1_3 hCK hG (r := 20) (Or.inr rfl) dX1_pushes_58 ?_
  refine cg_X1_125 (v := I 23) hCK hE hG rfl dX1_pushes_61 ?_
  refine r_imul hx hb dX1_pushes_64 ?_
  refine r_ineg hx hb dX1_pushes_65 ?_
  refine r_bipush hx hb dX1_pushes_66 (by decide) ?_
  refine r_idiv hx hb dX1_pushes_68 (by omega) (by decide) (by decide) ?_
  refine cs_s1 (r := 20) (z := 2) (v := (-((S 20 5) * (I 23))).tdiv 10) hCK hG hS (Or.inr rfl) (by decide) dX1_pushes_69 (fun H locs hG hS => ?_)
  have hG : CW D E A ad nv I F S (va_up Y 26 (updZ (updZ (updZ (Y 26) 0 ((-(armS (upS (I 1) (F 2) (F 3) (S 20 4) lv) (heavyS (I 4) (F 9) (F 5) (I 10) (F 14)) (pushS (I 1) (F 2) (F 3) (S 20 4) lv) ((downS (I 4) (F 9) (F 5) (Y 25) (F 7) (I 10) (F 14) (F 13) (F 11) (F 12)) (S 20 4)))).tdiv (I 22))) 1 (seaS (I 18) (F 19) (F 20) (F 21) (S 20 7))) 2 ((-((S 20 5) * (I 23))).tdiv 10))) L H := by
    have eY : va_up Y 26 (updZ (updZ (updZ (Y 26) 0 ((-(armS (upS (I 1) (F 2) (F 3) (S 20 4) lv) (heavyS (I 4) (F 9) (F 5) (I 10) (F 14)) (pushS (I 1) (F 2) (F 3) (S 20 4) lv) ((downS (I 4) (F 9) (F 5) (Y 25) (F 7) (I 10) (F 14) (F 13) (F 11) (F 12)) (S 20 4)))).tdiv (I 22))) 1 (seaS (I 18) (F 19) (F 20) (F 21) (S 20 7))) 2 ((-((S 20 5) * (I 23))).tdiv 10)) = va_up (va_up Y 26 (updZ (updZ (Y 26) 0 ((-(armS (upS (I 1) (F 2) (F 3) (S 20 4) lv) (heavyS (I 4) (F 9) (F 5) (I 10) (F 14)) (pushS (I 1) (F 2) (F 3) (S 20 4) lv) ((downS (I 4) (F 9) (F 5) (Y 25) (F 7) (I 10) (F 14) (F 13) (F 11) (F 12)) (S 20 4)))).tdiv (I 22))) 1 (seaS (I 18) (F 19) (F 20) (F 21) (S 20 7)))) 26 (updZ ((va_up Y 26 (updZ (updZ (Y 26) 0 ((-(armS (upS (I 1) (F 2) (F 3) (S 20 4) lv) (heavyS (I 4) (F 9) (F 5) (I 10) (F 14)) (pushS (I 1) (F 2) (F 3) (S 20 4) lv) ((downS (I 4) (F 9) (F 5) (Y 25) (F 7) (I 10) (F 14) (F 13) (F 11) (F 12)) (S 20 4)))).tdiv (I 22))) 1 (seaS (I 18) (F 19) (F 20) (F 21) (S 20 7)))) 26) 2 ((-((S 20 5) * (I 23))).tdiv 10)) := by
      funext i
      by_cases h1 : i = 26
      · subst h1; simp [va_up]
      · simp [va_up, h1]
    rw [eY]; exact hG
  refine lv_aload_n hx hb dX1_pushes_70 rfl (lv_at hl 0 rfl) ?_
  refine cg_X1_19 hCK hG (r := 20) (Or.inr rfl) dX1_pushes_71 ?_
  refine W.eq (g2 := F0 m 74 ls [.ref (ad 26)]) rfl ?_
  refine r_iconst hx hb dX1_pushes_74 ?_
  refine lv_aload_n hx hb dX1_pushes_75 rfl (lv_at hl 0 rfl) ?_
  refine r_iconst hx hb dX1_pushes_76 ?_
  refine c_calli (c_run (n := 1) (C0 := RX1) (b := ad 20) (rest := [.int (iI 3), .ref (ad 26)]) (as := [.int (iI 1)]) hCK hE hml (cholds_20 l adK adV st D E A ad nv I F S (va_up Y 26 (updZ (updZ (updZ (Y 26) 0 ((-(armS (upS (I 1) (F 2) (F 3) (S 20 4) lv) (heavyS (I 4) (F 9) (F 5) (I 10) (F 14)) (pushS (I 1) (F 2) (F 3) (S 20 4) lv) ((downS (I 4) (F 9) (F 5) (Y 25) (F 7) (I 10) (F 14) (F 13) (F 11) (F 12)) (S 20 4)))).tdiv (I 22))) 1 (seaS (I 18) (F 19) (F 20) (F 21) (S 20 7))) 2 ((-((S 20 5) * (I 23))).tdiv 10))) L 1 (by decide) hn gs0 gl0 gm0 gr0 hru b28 b29 ht b30 gp0 gw0) (g_rec (r := 20) (ci := 1) hK hG (Or.inl (by omega)) rfl (cC_s (Or.inr rfl))) q872 q873 q874 q72 q875 (by decide +kernel) ⟨rfl, rfl⟩ hR (by decide) ⟨Nat.zero_le _, Nat.zero_le _⟩ hG hS rfl hl.1 rfl (Nat.le_of_ble_eq_true rfl) dX1_pushes_77) hS (fun z2 I3 F4 S5 Y6 H locs hp7 hG hS => ?_)
  obtain ⟨rfl, rfl, rfl, rfl, gh0, gk0, rfl⟩ := hp7
  have hG : CW D E A ad nv I F S (va_up (va_up (va_up Y 26 (updZ (updZ (updZ (Y 26) 0 ((-(armS (upS (I 1) (F 2) (F 3) (S 20 4) lv) (heavyS (I 4) (F 9) (F 5) (I 10) (F 14)) (pushS (I 1) (F 2) (F 3) (S 20 4) lv) ((downS (I 4) (F 9) (F 5) (Y 25) (F 7) (I 10) (F 14) (F 13) (F 11) (F 12)) (S 20 4)))).tdiv (I 22))) 1 (seaS (I 18) (F 19) (F 20) (F 21) (S 20 7))) 2 ((-((S 20 5) * (I 23))).tdiv 10))) 3 gh0) 2 gk0) L H := hG
  refine W.eq (g2 := F0 m 80 ls [.int (iI (soZ F 1 (nmS I F (S 20 4) (S 20 5) (S 20 7) (S 20 8) (Y 28) (Y 25)))), .int (iI 3), .ref (ad 26)]) rfl ?_
  have d0 := tdiv_bd (a := -(armS (upS (I 1) (F 2) (F 3) (S 20 4) lv) (heavyS (I 4) (F 9) (F 5) (I 10) (F 14)) (pushS (I 1) (F 2) (F 3) (S 20 4) lv) ((downS (I 4) (F 9) (F 5) (Y 25) (F 7) (I 10) (F 14) (F 13) (F 11) (F 12)) (S 20 4)))) (b := I 22) (M := 144024000) (by omega) (by omega)
  have d1 := seaS_bd (per := F 20) (pha := F 21) (S 20 7) gs0.1 gs0.2.2.1
  have d2 := tdiv_bd (a := -(S 20 5 * I 23)) (b := 10) (M := 1500) (by decide) (by omega)
  have d3 := tdiv_bd (a := -(S 20 5 * I 25)) (b := 4) (M := 270) (by decide) (by omega)
  have d3i : -270 ≤ (if soZ F 1 (nmS I F (S 20 4) (S 20 5) (S 20 7) (S 20 8) (Y 28) (Y 25)) = 0 then 0 else (-(S 20 5 * I 25)).tdiv 4) ∧ (if soZ F 1 (nmS I F (S 20 4) (S 20 5) (S 20 7) (S 20 8) (Y 28) (Y 25)) = 0 then 0 else (-(S 20 5 * I 25)).tdiv 4) ≤ 270 := by split <;> omega
  have jn8 : W p l e R s m args below meth c H locs 0 0 Q (F0 m 102 ls [.int (iI (if soZ F 1 (nmS I F (S 20 4) (S 20 5) (S 20 7) (S 20 8) (Y 28) (Y 25)) = 0 then 0 else (-(S 20 5 * I 25)).tdiv 4)), .int (iI 3), .ref (ad 26)]) := by
    refine cs_s1 (r := 20) (z := 3) (v := if soZ F 1 (nmS I F (S 20 4) (S 20 5) (S 20 7) (S 20 8) (Y 28) (Y 25)) = 0 then 0 else (-(S 20 5 * I 25)).tdiv 4) hCK hG hS (Or.inr rfl) (by decide) dX1_pushes_102 (fun H locs hG hS => ?_)
    have hG : CW D E A ad nv I F S (va_up (va_up (va_up Y 3 gh0) 2 gk0) 26 (updZ (updZ (updZ (updZ (Y 26) 0 ((-(armS (upS (I 1) (F 2) (F 3) (S 20 4) lv) (heavyS (I 4) (F 9) (F 5) (I 10) (F 14)) (pushS (I 1) (F 2) (F 3) (S 20 4) lv) ((downS (I 4) (F 9) (F 5) (Y 25) (F 7) (I 10) (F 14) (F 13) (F 11) (F 12)) (S 20 4)))).tdiv (I 22))) 1 (seaS (I 18) (F 19) (F 20) (F 21) (S 20 7))) 2 ((-((S 20 5) * (I 23))).tdiv 10)) 3 (if soZ F 1 (nmS I F (S 20 4) (S 20 5) (S 20 7) (S 20 8) (Y 28) (Y 25)) = 0 then 0 else (-(S 20 5 * I 25)).tdiv 4))) L H := by
      have eY : va_up (va_up (va_up Y 3 gh0) 2 gk0) 26 (updZ (updZ (updZ (updZ (Y 26) 0 ((-(armS (upS (I 1) (F 2) (F 3) (S 20 4) lv) (heavyS (I 4) (F 9) (F 5) (I 10) (F 14)) (pushS (I 1) (F 2) (F 3) (S 20 4) lv) ((downS (I 4) (F 9) (F 5) (Y 25) (F 7) (I 10) (F 14) (F 13) (F 11) (F 12)) (S 20 4)))).tdiv (I 22))) 1 (seaS (I 18) (F 19) (F 20) (F 21) (S 20 7))) 2 ((-((S 20 5) * (I 23))).tdiv 10)) 3 (if soZ F 1 (nmS I F (S 20 4) (S 20 5) (S 20 7) (S 20 8) (Y 28) (Y 25)) = 0 then 0 else (-(S 20 5 * I 25)).tdiv 4)) = va_up (va_up (va_up (va_up Y 26 (updZ (updZ (updZ (Y 26) 0 ((-(armS (upS (I 1) (F 2) (F 3) (S 20 4) lv) (heavyS (I 4) (F 9) (F 5) (I 10) (F 14)) (pushS (I 1) (F 2) (F 3) (S 20 4) lv) ((downS (I 4) (F 9) (F 5) (Y 25) (F 7) (I 10) (F 14) (F 13) (F 11) (F 12)) (S 20 4)))).tdiv (I 22))) 1 (seaS (I 18) (F 19) (F 20) (F 21) (S 20 7))) 2 ((-((S 20 5) * (I 23))).tdiv 10))) 3 gh0) 2 gk0) 26 (updZ ((va_up (va_up (va_up Y 26 (updZ (updZ (updZ (Y 26) 0 ((-(armS (upS (I 1) (F 2) (F 3) (S 20 4) lv) (heavyS (I 4) (F 9) (F 5) (I 10) (F 14)) (pushS (I 1) (F 2) (F 3) (S 20 4) lv) ((downS (I 4) (F 9) (F 5) (Y 25) (F 7) (I 10) (F 14) (F 13) (F 11) (F 12)) (S 20 4)))).tdiv (I 22))) 1 (seaS (I 18) (F 19) (F 20) (F 21) (S 20 7))) 2 ((-((S 20 5) * (I 23))).tdiv 10))) 3 gh0) 2 gk0) 26) 3 (if soZ F 1 (nmS I F (S 20 4) (S 20 5) (S 20 7) (S 20 8) (Y 28) (Y 25)) = 0 then 0 else (-(S 20 5 * I 25)).tdiv 4)) := by
        funext i
        by_cases h1 : i = 26
        · subst h1; simp [va_up]
        · simp [va_up, h1]
      rw [eY]; exact hG
    refine lv_aload_n hx hb dX1_pushes_103 rfl (lv_at hl 0 rfl) ?_
    refine lv_aload_n hx hb dX1_pushes_104 rfl (lv_at hl 0 rfl) ?_
    refine cg_X1_19 hCK hG (r := 20) (Or.inr rfl) dX1_pushes_105 ?_
    refine W.eq (g2 := F0 m 108 ls [.ref (ad 26), .ref (ad 20)]) rfl ?_
    refine r_iconst hx hb dX1_pushes_108 ?_
    refine cl_s1 (v := (-(armS (upS (I 1) (F 2) (F 3) (S 20 4) lv) (heavyS (I 4) (F 9) (F 5) (I 10) (F 14)) (pushS (I 1) (F 2) (F 3) (S 20 4) lv) ((downS (I 4) (F 9) (F 5) (Y 25) (F 7) (I 10) (F 14) (F 13) (F 11) (F 12)) (S 20 4)))).tdiv (I 22)) (r := 20) hCK hG (Or.inr rfl) (by decide) (by simp [va_up, updZ]) dX1_pushes_109 ?_
    refine r_i2l hx hb dX1_pushes_110 (by omega) ?_
    refine lv_aload_n hx hb dX1_pushes_111 rfl (lv_at hl 0 rfl) ?_
    refine cg_X1_19 hCK hG (r := 20) (Or.inr rfl) dX1_pushes_112 ?_
    refine W.eq (g2 := F0 m 115 ls [.ref (ad 26), .long (iL ((-(armS (upS (I 1) (F 2) (F 3) (S 20 4) lv) (heavyS (I 4) (F 9) (F 5) (I 10) (F 14)) (pushS (I 1) (F 2) (F 3) (S 20 4) lv) ((downS (I 4) (F 9) (F 5) (Y 25) (F 7) (I 10) (F 14) (F 13) (F 11) (F 12)) (S 20 4)))).tdiv (I 22))), .ref (ad 20)]) rfl ?_
    refine r_iconst hx hb dX1_pushes_115 ?_
    refine cl_s1 (v := seaS (I 18) (F 19) (F 20) (F 21) (S 20 7)) (r := 20) hCK hG (Or.inr rfl) (by decide) (by simp [va_up, updZ]) dX1_pushes_116 ?_
    refine r_i2l hx hb dX1_pushes_117 (by omega) ?_
    refine r_ladd hx hb dX1_pushes_118 ?_
    refine lv_aload_n hx hb dX1_pushes_119 rfl (lv_at hl 0 rfl) ?_
    refine cg_X1_19 hCK hG (r := 20) (Or.inr rfl) dX1_pushes_120 ?_
    refine W.eq (g2 := F0 m 123 ls [.ref (ad 26), .long (iL (((-(armS (upS (I 1) (F 2) (F 3) (S 20 4) lv) (heavyS (I 4) (F 9) (F 5) (I 10) (F 14)) (pushS (I 1) (F 2) (F 3) (S 20 4) lv) ((downS (I 4) (F 9) (F 5) (Y 25) (F 7) (I 10) (F 14) (F 13) (F 11) (F 12)) (S 20 4)))).tdiv (I 22)) + (seaS (I 18) (F 19) (F 20) (F 21) (S 20 7)))), .ref (ad 20)]) rfl ?_
    refine r_iconst hx hb dX1_pushes_123 ?_
    refine cl_s1 (v := (-(S 20 5 * I 23)).tdiv 10) (r := 20) hCK hG (Or.inr rfl) (by decide) (by simp [va_up, updZ]) dX1_pushes_124 ?_
    refine r_i2l hx hb dX1_pushes_125 (by omega) ?_
    refine r_ladd hx hb dX1_pushes_126 ?_
    refine lv_aload_n hx hb dX1_pushes_127 rfl (lv_at hl 0 rfl) ?_
    refine cg_X1_19 hCK hG (r := 20) (Or.inr rfl) dX1_pushes_128 ?_
    refine W.eq (g2 := F0 m 131 ls [.ref (ad 26), .long (iL ((((-(armS (upS (I 1) (F 2) (F 3) (S 20 4) lv) (heavyS (I 4) (F 9) (F 5) (I 10) (F 14)) (pushS (I 1) (F 2) (F 3) (S 20 4) lv) ((downS (I 4) (F 9) (F 5) (Y 25) (F 7) (I 10) (F 14) (F 13) (F 11) (F 12)) (S 20 4)))).tdiv (I 22)) + (seaS (I 18) (F 19) (F 20) (F 21) (S 20 7))) + ((-(S 20 5 * I 23)).tdiv 10))), .ref (ad 20)]) rfl ?_
    refine r_iconst hx hb dX1_pushes_131 ?_
    refine cl_s1 (v := if soZ F 1 (nmS I F (S 20 4) (S 20 5) (S 20 7) (S 20 8) (Y 28) (Y 25)) = 0 then 0 else (-(S 20 5 * I 25)).tdiv 4) (r := 20) hCK hG (Or.inr rfl) (by decide) (by simp [va_up, updZ]) dX1_pushes_132 ?_
    refine r_i2l hx hb dX1_pushes_133 (by omega) ?_
    refine r_ladd hx hb dX1_pushes_134 ?_
    refine r_sipush hx hb dX1_pushes_135 (by decide) ?_
    refine s_calli (j_runSN (n := 2) (rest := [.ref (ad 20)]) (as := [.long (iL (((((-(armS (upS (I 1) (F 2) (F 3) (S 20 4) lv) (heavyS (I 4) (F 9) (F 5) (I 10) (F 14)) (pushS (I 1) (F 2) (F 3) (S 20 4) lv) ((downS (I 4) (F 9) (F 5) (Y 25) (F 7) (I 10) (F 14) (F 13) (F 11) (F 12)) (S 20 4)))).tdiv (I 22)) + (seaS (I 18) (F 19) (F 20) (F 21) (S 20 7))) + ((-(S 20 5 * I 23)).tdiv 10)) + (if soZ F 1 (nmS I F (S 20 4) (S 20 5) (S 20 7) (S 20 8) (Y 28) (Y 25)) = 0 then 0 else (-(S 20 5 * I 25)).tdiv 4))), .int (iI 1000)]) hx hb hml hown hts hE ((cbrought l (((((-(armS (upS (I 1) (F 2) (F 3) (S 20 4) lv) (heavyS (I 4) (F 9) (F 5) (I 10) (F 14)) (pushS (I 1) (F 2) (F 3) (S 20 4) lv) ((downS (I 4) (F 9) (F 5) (Y 25) (F 7) (I 10) (F 14) (F 13) (F 11) (F 12)) (S 20 4)))).tdiv (I 22)) + (seaS (I 18) (F 19) (F 20) (F 21) (S 20 7))) + ((-(S 20 5 * I 23)).tdiv 10)) + (if soZ F 1 (nmS I F (S 20 4) (S 20 5) (S 20 7) (S 20 8) (Y 28) (Y 25)) = 0 then 0 else (-(S 20 5 * I 25)).tdiv 4)) 1000 (by omega) (by decide)).jm) (fun _ _ _ _ _ => trivial) (fun _ _ _ => trivial) q900 q901 q68 q902 (by decide +kernel) ⟨rfl, rfl⟩ hR (by decide) ⟨Nat.zero_le _, Nat.zero_le _⟩ rfl hl.1 rfl (Nat.le_of_ble_eq_true rfl) dX1_pushes_138) ?_
    refine cp_X1_139 (r := 20) hCK hG hS (Or.inr rfl) dX1_pushes_141 (fun H locs hG hS => ?_)
    exact c_vret hCK hQ hr hlk hG hS dX1_pushes_144 (⟨rfl, rfl, rfl, ⟨_, _, rfl⟩⟩)
  refine r_if_eq (tgt := 101) hx hb dX1_pushes_80 (by decide) (by rcases soZ_01 F 1 (nmS I F (S 20 4) (S 20 5) (S 20 7) (S 20 8) (Y 28) (Y 25)) with q | q <;> omega) (fun c9 => ?_) (fun c9 => ?_)
  · refine r_iconst hx hb dX1_pushes_101 ?_
    rw [if_pos (by omega)] at jn8
    exact jn8
  · refine lv_aload_n hx hb dX1_pushes_83 rfl (lv_at hl 0 rfl) ?_
    refine cg_X1_39 (v := S 20 5) hCK hG (r := 20) (Or.inr rfl) rfl dX1_pushes_84 ?_
    refine lv_aload_n hx hb dX1_pushes_87 rfl (lv_at hl 0 rfl) ?_
    refine cg_X1_3 hCK hG (r := 20) (Or.inr rfl) dX1_pushes_88 ?_
    refine cg_X1_132 (v := I 25) hCK hE hG rfl dX1_pushes_91 ?_
    refine r_imul hx hb dX1_pushes_94 ?_
    refine r_ineg hx hb dX1_pushes_95 ?_
    refine r_iconst hx hb dX1_pushes_96 ?_
    refine r_idiv hx hb dX1_pushes_97 (by omega) (by decide) (by decide) ?_
    refine lv_goto (tgt := 102) hx hb dX1_pushes_98 (by decide) ?_
    rw [if_neg (by omega)] at jn8
    exact jn8
