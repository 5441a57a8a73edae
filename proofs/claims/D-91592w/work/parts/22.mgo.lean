/-! THE MODEL: ticks -/
set_option maxRecDepth 100000

theorem tkJ6 (I : Nat → Int) (F : Nat → Int → Int) (t fi : Int) (J : Nat → Int) (G : Nat → Int → Int) : tkJ I F t fi J G 6 = 0 ∨ tkJ I F t fi J G 6 = 1 := by
  unfold tkJ
  by_cases c1 : J 4 ≠ 0
  · rw [if_pos c1]; exact Or.inl rfl
  · rw [if_neg c1]
    by_cases c2 : tLv I F (J 0) = -2147483648
    · rw [if_pos c2]; exact Or.inl rfl
    · rw [if_neg c2]; exact Or.inr rfl
theorem up4s (I : Nat → Int) (a b c d : Nat) : va_up (va_up (va_up (va_up I a (I a)) b (I b)) c (I c)) d (I d) = I := by
  rw [up_self, up_self, up_self, up_self]
theorem upGo (I : Nat → Int) (t f a b f1 a1 b1 t1 : Int) : va_up (va_up (va_up (va_up I 26 t1) 70 f1) 66 a1) 67 b1 = va_up (va_up (va_up (va_up (va_up (va_up (va_up (va_up I 26 t) 70 f) 66 a) 67 b) 70 f1) 66 a1) 67 b1) 26 t1 := by
  funext i
  by_cases h1 : i = 67
  · simp [va_up, h1]
  by_cases h2 : i = 66
  · simp [va_up, h2]
  by_cases h3 : i = 70
  · simp [va_up, h3]
  by_cases h4 : i = 26
  · simp [va_up, h4]
  simp [va_up, h1, h2, h3, h4]
theorem setGo_K (I : Nat → Int) (F : Nat → Int → Int) (J J1 : Nat → Int) (G K : Nat → Int → Int) (g g1 : Int → Int) (t : Int) : setGo F J1 G (gK I K t J J1) g g1 = upF (upF (upF (upF (upF (setGo F J1 G K g g1) 40 t (J1 6)) 36 t (if J 4 ≠ 0 then 0 else J1 0)) 37 t (if J 4 ≠ 0 then 0 else J1 1)) 38 t (J1 5)) 39 t (I 24) := by
  funext k
  by_cases h36 : k = 36
  · subst h36; simp [upF, va_up, setGo, gK]
  by_cases h37 : k = 37
  · subst h37; simp [upF, va_up, setGo, gK]
  by_cases h38 : k = 38
  · subst h38; simp [upF, va_up, setGo, gK]
  by_cases h39 : k = 39
  · subst h39; simp [upF, va_up, setGo, gK]
  by_cases h40 : k = 40
  · subst h40; simp [upF, va_up, setGo, gK]
  simp [upF, va_up, setGo, h36, h37, h38, h39, h40]
theorem setLot_setLot (F : Nat → Int → Int) (lot : Int) (J J1 : Nat → Int) (G G1 : Nat → Int → Int) (g g1 g2 g3 : Int → Int) : setLot (setLot F lot J G g g1) lot J1 G1 g2 g3 = setLot F lot J1 G1 g2 g3 := by
  refine setLot_ext ?_ ?_ ?_ ?_ ?_ ?_ ?_ ?_ ?_ rfl rfl ?_
  · exact fedT_fedT (F 27) (G 0) (G1 0) (12 * lot) 12
  · exact updZ_updZ (F 28) lot (J 0) (J1 0)
  · exact updZ_updZ (F 29) lot (J 1) (J1 1)
  · exact updZ_updZ (F 30) lot (J 2) (J1 2)
  · exact updZ_updZ (F 31) lot (J 3) (J1 3)
  · exact updZ_updZ (F 32) lot (J 4) (J1 4)
  · exact fedT_fedT (F 33) (G 1) (G1 1) (6 * lot) 6
  · exact fedT_fedT (F 34) (G 2) (G1 2) (6 * lot) 6
  · exact fedT_fedT (F 35) (G 3) (G1 3) (4 * lot) 4
  · intro k n27 n28 n29 n30 n31 n32 n33 n34 n35 n71 n72
    simp [setLot, n27, n28, n29, n30, n31, n32, n33, n34, n35, n71, n72]
theorem isLot_other {F : Nat → Int → Int} {J : Nat → Int} {G : Nat → Int → Int} (h : isLot F 0 J G) (J1 : Nat → Int) (G1 : Nat → Int → Int) (g g1 : Int → Int) : isLot (setLot F 1 J1 G1 g g1) 0 J G := by
  obtain ⟨h28, h29, h30, h31, h32, h27, h33, h34, h35⟩ := h
  refine ⟨h28, h29, h30, h31, h32, fun w h0 h1 => ?_, fun w h0 h1 => ?_, fun w h0 h1 => ?_, fun w h0 h1 => ?_⟩
  · show fedT (F 27) (12 * 1) (G1 0) 12 (12 * 0 + w) = _
    rw [fedT_n (by omega)]; exact h27 w h0 h1
  · show fedT (F 33) (6 * 1) (G1 1) 6 (6 * 0 + w) = _
    rw [fedT_n (by omega)]; exact h33 w h0 h1
  · show fedT (F 34) (6 * 1) (G1 2) 6 (6 * 0 + w) = _
    rw [fedT_n (by omega)]; exact h34 w h0 h1
  · show fedT (F 35) (4 * 1) (G1 3) 4 (4 * 0 + w) = _
    rw [fedT_n (by omega)]; exact h35 w h0 h1
theorem upTr (I : Nat → Int) (x f a b x1 f1 a1 b1 : Int) : va_up (va_up (va_up (va_up I 73 x1) 70 f1) 66 a1) 67 b1 = va_up (va_up (va_up (va_up (va_up (va_up (va_up (va_up I 73 x) 70 f) 66 a) 67 b) 73 x1) 70 f1) 66 a1) 67 b1 := by
  funext i
  by_cases h1 : i = 67
  · simp [va_up, h1]
  by_cases h2 : i = 66
  · simp [va_up, h2]
  by_cases h3 : i = 70
  · simp [va_up, h3]
  by_cases h4 : i = 73
  · simp [va_up, h4]
  simp [va_up, h1, h2, h3, h4]
theorem upTr2 (I : Nat → Int) (x f a b f1 a1 b1 : Int) : va_up (va_up (va_up (va_up I 73 x) 70 f1) 66 a1) 67 b1 = va_up (va_up (va_up (va_up (va_up (va_up (va_up I 73 x) 70 f) 66 a) 67 b) 70 f1) 66 a1) 67 b1 := by
  funext i
  by_cases h1 : i = 67
  · simp [va_up, h1]
  by_cases h2 : i = 66
  · simp [va_up, h2]
  by_cases h3 : i = 70
  · simp [va_up, h3]
  by_cases h4 : i = 73
  · simp [va_up, h4]
  simp [va_up, h1, h2, h3, h4]
theorem upTr3 (I : Nat → Int) (x f a b x1 : Int) : va_up (va_up (va_up (va_up I 73 x1) 70 f) 66 a) 67 b = va_up (va_up (va_up (va_up (va_up I 73 x) 70 f) 66 a) 67 b) 73 x1 := by
  funext i
  by_cases h1 : i = 67
  · simp [va_up, h1]
  by_cases h2 : i = 66
  · simp [va_up, h2]
  by_cases h3 : i = 70
  · simp [va_up, h3]
  by_cases h4 : i = 73
  · simp [va_up, h4]
  simp [va_up, h1, h2, h3, h4]
theorem upTr4 (I : Nat → Int) (x f a b : Int) : va_up (va_up (va_up I 73 x) 66 a) 67 b = va_up (va_up (va_up (va_up (va_up I 73 x) 70 f) 66 a) 67 b) 70 (I 70) := by
  funext i
  by_cases h1 : i = 67
  · simp [va_up, h1]
  by_cases h2 : i = 66
  · simp [va_up, h2]
  by_cases h3 : i = 70
  · simp [va_up, h3]
  by_cases h4 : i = 73
  · simp [va_up, h4]
  simp [va_up, h1, h2, h3, h4]
theorem up73 (I : Nat → Int) (x a b x1 a1 b1 : Int) : va_up (va_up (va_up (va_up (va_up (va_up I 73 x) 66 a) 67 b) 73 x1) 66 a1) 67 b1 = va_up (va_up (va_up I 73 x1) 66 a1) 67 b1 := by
  funext i
  by_cases h1 : i = 67
  · simp [va_up, h1]
  by_cases h2 : i = 66
  · simp [va_up, h2]
  by_cases h4 : i = 73
  · simp [va_up, h4]
  simp [va_up, h1, h2, h4]
theorem dX2_holds_0 : decode cX2_holds 0 = .ok (.iload_n 1, 1) := by decide +kernel
theorem dX2_holds_1 : decode cX2_holds 1 = .ok (.iconst 0, 1) := by decide +kernel
theorem dX2_holds_2 : decode cX2_holds 2 = .ok (.iconst 1, 1) := by decide +kernel
theorem dX2_holds_3 : decode cX2_holds 3 = .ok (.invokestatic 173, 3) := by decide +kernel
theorem dX2_holds_6 : decode cX2_holds 6 = .ok (.ifCond .eq 34, 3) := by decide +kernel
theorem dX2_holds_9 : decode cX2_holds 9 = .ok (.aload_n 0, 1) := by decide +kernel
theorem dX2_holds_10 : decode cX2_holds 10 = .ok (.getfield 254, 3) := by decide +kernel
theorem dX2_holds_13 : decode cX2_holds 13 = .ok (.sipush 600, 3) := by decide +kernel
theorem dX2_holds_16 : decode cX2_holds 16 = .ok (.if_icmp .ge 24, 3) := by decide +kernel
theorem dX2_holds_19 : decode cX2_holds 19 = .ok (.aload_n 0, 1) := by decide +kernel
theorem dX2_holds_20 : decode cX2_holds 20 = .ok (.iload_n 1, 1) := by decide +kernel
theorem dX2_holds_21 : decode cX2_holds 21 = .ok (.iconst 0, 1) := by decide +kernel
theorem dX2_holds_22 : decode cX2_holds 22 = .ok (.aload_n 0, 1) := by decide +kernel
theorem dX2_holds_23 : decode cX2_holds 23 = .ok (.getfield 254, 3) := by decide +kernel
theorem dX2_holds_26 : decode cX2_holds 26 = .ok (.invokevirtual 247, 3) := by decide +kernel
theorem dX2_holds_29 : decode cX2_holds 29 = .ok (.ifCond .eq 7, 3) := by decide +kernel
theorem dX2_holds_32 : decode cX2_holds 32 = .ok (.iconst 1, 1) := by decide +kernel
theorem dX2_holds_33 : decode cX2_holds 33 = .ok (.goto 8, 3) := by decide +kernel
theorem dX2_holds_36 : decode cX2_holds 36 = .ok (.iconst 0, 1) := by decide +kernel
theorem dX2_holds_37 : decode cX2_holds 37 = .ok (.goto 4, 3) := by decide +kernel
theorem dX2_holds_40 : decode cX2_holds 40 = .ok (.iconst (-1), 1) := by decide +kernel
theorem dX2_holds_41 : decode cX2_holds 41 = .ok (.ireturn, 1) := by decide +kernel
set_option maxHeartbeats 4000000 in
theorem met_holds (l : Launch) (D : va_G) (E : Nat → ClassId) (A : Nat → Prop) (h : Nat) (ad : Nat → Nat) (I : Nat → Int) (F : Nat → Int → Int) (cz : Int) (r_c : R32 cz) (gsh0 : gShip 3000 (lotJ F 0) (lotG F 0)) (i26 : 0 ≤ I 26 ∧ I 26 ≤ 600) (gh0 : gHull I F) (gl0 : gLoad I F) (gm0 : gMark I F) (gs0 : gSea I F) (gt0 : gSet I) (gr0 : gRule F) : MM l yX2_holds cX2_holds 2 (some .int) (mrm 3) D E A h ad [.int (iI cz)] I F (MQi D E A h ad (fun z I1 F1 => holdsS I F cz = z ∧ I = I1 ∧ ∃ g g1, va_up (va_up F 71 g) 72 g1 = F1)) := by
  refine m_start (by decide) rfl (Nat.le_of_ble_eq_true rfl) ?_
  intro p e R s m args below meth c ls Q hR hQ hC hml hr hlk hM hS hl
  have hx := hC.1
  have hb := hC.2.1
  have hown := hC.2.2.1
  have hts := hC.2.2.2.1
  have hl : lv_has ls 2 [(0, .ref h), (1, .int (iI cz))] := hl
  obtain ⟨b0, b1, b2, b3, b4, b5, b6⟩ := gsh0
  have hlot : (0 : Int) ≤ 0 ∧ (0 : Int) ≤ 1 := by decide
  refine lv_iload_n hx hb dX2_holds_0 rfl (lv_at hl 1 rfl) ?_
  refine r_iconst hx hb dX2_holds_1 ?_
  refine r_iconst hx hb dX2_holds_2 ?_
  refine s_calli (kX2_X2_in (rest := []) (as := [.int (iI cz), .int (iI 0), .int (iI 1)]) hx hb hml hown hts (met_in l cz 0 1 r_c (by decide) (by decide)) ⟨rfl, rfl⟩ hR (by decide) rfl hl.1 rfl (Nat.le_of_ble_eq_true rfl) dX2_holds_3) ?_
  refine r_ifeqB (tgt := 40) hx hb dX2_holds_6 (by decide) (fun c1 => ?_) (fun c1 => ?_)
  · refine r_iconst hx hb dX2_holds_40 ?_
    exact m_iret hC hQ hr hlk hM hS dX2_holds_41 (⟨if_neg (by omega), rfl, ⟨F 71, F 72, by rw [up_self]; exact up_self F 72⟩⟩)
  · refine lv_aload_n hx hb dX2_holds_9 rfl (lv_at hl 0 rfl) ?_
    refine mg_26 (v := I 26) hC hM rfl dX2_holds_10 ?_
    refine r_sipush hx hb dX2_holds_13 (by decide) ?_
    refine r_icmp_ge (tgt := 40) hx hb dX2_holds_16 (by decide) (by omega) (by decide) (fun c2 => ?_) (fun c2 => ?_)
    · refine r_iconst hx hb dX2_holds_40 ?_
      exact m_iret hC hQ hr hlk hM hS dX2_holds_41 (⟨if_neg (by omega), rfl, ⟨F 71, F 72, by rw [up_self]; exact up_self F 72⟩⟩)
    · refine lv_aload_n hx hb dX2_holds_19 rfl (lv_at hl 0 rfl) ?_
      refine lv_iload_n hx hb dX2_holds_20 rfl (lv_at hl 1 rfl) ?_
      refine r_iconst hx hb dX2_holds_21 ?_
      refine lv_aload_n hx hb dX2_holds_22 rfl (lv_at hl 0 rfl) ?_
      refine mg_26 (v := I 26) hC hM rfl dX2_holds_23 ?_
      refine m_calli (kX2_isSo (rest := []) (as := [.int (iI cz), .int (iI 0), .int (iI (I 26))]) hC hml (met_isSo l D E A h ad I F cz 0 (I 26) (F 28 0) (F 29 0) (F 30 0) (lotG F 0 1) (lotG F 0 0) (by omega) hlot (by omega) rfl rfl rfl (fun _ _ _ => rfl) (fun _ _ _ => rfl) b0 b1 (by have b2 : 0 ≤ F 30 0 ∧ F 30 0 ≤ 26 * 3000 := b2; omega) b5 b6 gs0 gl0 gm0 gr0) ⟨rfl, rfl⟩ hR (by decide) hM rfl hl.1 rfl (Nat.le_of_ble_eq_true rfl) dX2_holds_26) hS (fun z5 I6 F7 H locs hp8 hM hS => ?_)
      obtain ⟨rfl, rfl, ⟨g3, g4, rfl⟩⟩ := hp8
      obtain ⟨so0, h_so0⟩ : ∃ x : Int, x = soZ F cz (nmS I F (F 28 0) (F 29 0) (I 26) (F 30 0) (lotG F 0 1) (lotG F 0 0)) := ⟨_, rfl⟩
      refine W.eq (g2 := F0 m 29 ls [.int (iI so0)]) (by subst h_so0; rfl) ?_
      have b_so0 : so0 = 0 ∨ so0 = 1 := by rw [h_so0]; exact soZ_01 _ _ _
      have eh : holdsS I F cz = so0 := by unfold holdsS; rw [if_pos (by omega), h_so0]
      refine r_if_eq (tgt := 36) hx hb dX2_holds_29 (by decide) (by omega) (fun c9 => ?_) (fun c9 => ?_)
      · refine r_iconst hx hb dX2_holds_36 ?_
        refine lv_goto (tgt := 41) hx hb dX2_holds_37 (by decide) ?_
        exact m_iret hC hQ hr hlk hM hS dX2_holds_41 (⟨by rw [eh]; omega, rfl, ⟨_, _, rfl⟩⟩)
      · refine r_iconst hx hb dX2_holds_32 ?_
        refine lv_goto (tgt := 41) hx hb dX2_holds_33 (by decide) ?_
        exact m_iret hC hQ hr hlk hM hS dX2_holds_41 (⟨by rw [eh]; omega, rfl, ⟨_, _, rfl⟩⟩)
theorem dX2_go_0 : decode cX2_go 0 = .ok (.iload_n 1, 1) := by decide +kernel
theorem dX2_go_1 : decode cX2_go 1 = .ok (.iconst 0, 1) := by decide +kernel
theorem dX2_go_2 : decode cX2_go 2 = .ok (.bipush 100, 2) := by decide +kernel
theorem dX2_go_4 : decode cX2_go 4 = .ok (.invokestatic 173, 3) := by decide +kernel
theorem dX2_go_7 : decode cX2_go 7 = .ok (.ifCond .ne 5, 3) := by decide +kernel
theorem dX2_go_10 : decode cX2_go 10 = .ok (.iconst (-1), 1) := by decide +kernel
theorem dX2_go_11 : decode cX2_go 11 = .ok (.ireturn, 1) := by decide +kernel
theorem dX2_go_12 : decode cX2_go 12 = .ok (.iconst 0, 1) := by decide +kernel
theorem dX2_go_13 : decode cX2_go 13 = .ok (.istore_n 2, 1) := by decide +kernel
theorem dX2_go_14 : decode cX2_go 14 = .ok (.iload_n 2, 1) := by decide +kernel
theorem dX2_go_15 : decode cX2_go 15 = .ok (.iload_n 1, 1) := by decide +kernel
theorem dX2_go_16 : decode cX2_go 16 = .ok (.if_icmp .ge 130, 3) := by decide +kernel
theorem dX2_go_19 : decode cX2_go 19 = .ok (.aload_n 0, 1) := by decide +kernel
theorem dX2_go_20 : decode cX2_go 20 = .ok (.getfield 254, 3) := by decide +kernel
theorem dX2_go_23 : decode cX2_go 23 = .ok (.sipush 600, 3) := by decide +kernel
theorem dX2_go_26 : decode cX2_go 26 = .ok (.if_icmp .ge 120, 3) := by decide +kernel
theorem dX2_go_29 : decode cX2_go 29 = .ok (.aload_n 0, 1) := by decide +kernel
theorem dX2_go_30 : decode cX2_go 30 = .ok (.getfield 87, 3) := by decide +kernel
theorem dX2_go_33 : decode cX2_go 33 = .ok (.iconst 0, 1) := by decide +kernel
theorem dX2_go_34 : decode cX2_go 34 = .ok (.baload, 1) := by decide +kernel
theorem dX2_go_35 : decode cX2_go 35 = .ok (.istore_n 3, 1) := by decide +kernel
theorem dX2_go_36 : decode cX2_go 36 = .ok (.aload_n 0, 1) := by decide +kernel
theorem dX2_go_37 : decode cX2_go 37 = .ok (.getfield 111, 3) := by decide +kernel
theorem dX2_go_40 : decode cX2_go 40 = .ok (.aload_n 0, 1) := by decide +kernel
theorem dX2_go_41 : decode cX2_go 41 = .ok (.getfield 254, 3) := by decide +kernel
theorem dX2_go_44 : decode cX2_go 44 = .ok (.aload_n 0, 1) := by decide +kernel
theorem dX2_go_45 : decode cX2_go 45 = .ok (.iconst 0, 1) := by decide +kernel
theorem dX2_go_46 : decode cX2_go 46 = .ok (.aload_n 0, 1) := by decide +kernel
theorem dX2_go_47 : decode cX2_go 47 = .ok (.getfield 254, 3) := by decide +kernel
theorem dX2_go_50 : decode cX2_go 50 = .ok (.aload_n 0, 1) := by decide +kernel
theorem dX2_go_51 : decode cX2_go 51 = .ok (.getfield 237, 3) := by decide +kernel
theorem dX2_go_54 : decode cX2_go 54 = .ok (.invokevirtual 257, 3) := by decide +kernel
theorem dX2_go_57 : decode cX2_go 57 = .ok (.bastore, 1) := by decide +kernel
theorem dX2_go_58 : decode cX2_go 58 = .ok (.aload_n 0, 1) := by decide +kernel
theorem dX2_go_59 : decode cX2_go 59 = .ok (.getfield 99, 3) := by decide +kernel
theorem dX2_go_62 : decode cX2_go 62 = .ok (.aload_n 0, 1) := by decide +kernel
theorem dX2_go_63 : decode cX2_go 63 = .ok (.getfield 254, 3) := by decide +kernel
theorem dX2_go_66 : decode cX2_go 66 = .ok (.iload_n 3, 1) := by decide +kernel
theorem dX2_go_67 : decode cX2_go 67 = .ok (.ifCond .eq 7, 3) := by decide +kernel
theorem dX2_go_70 : decode cX2_go 70 = .ok (.iconst 0, 1) := by decide +kernel
theorem dX2_go_71 : decode cX2_go 71 = .ok (.goto 9, 3) := by decide +kernel
theorem dX2_go_74 : decode cX2_go 74 = .ok (.aload_n 0, 1) := by decide +kernel
theorem dX2_go_75 : decode cX2_go 75 = .ok (.getfield 75, 3) := by decide +kernel
theorem dX2_go_78 : decode cX2_go 78 = .ok (.iconst 0, 1) := by decide +kernel
theorem dX2_go_79 : decode cX2_go 79 = .ok (.iaload, 1) := by decide +kernel
theorem dX2_go_80 : decode cX2_go 80 = .ok (.iastore, 1) := by decide +kernel
theorem dX2_go_81 : decode cX2_go 81 = .ok (.aload_n 0, 1) := by decide +kernel
theorem dX2_go_82 : decode cX2_go 82 = .ok (.getfield 102, 3) := by decide +kernel
theorem dX2_go_85 : decode cX2_go 85 = .ok (.aload_n 0, 1) := by decide +kernel
theorem dX2_go_86 : decode cX2_go 86 = .ok (.getfield 254, 3) := by decide +kernel
theorem dX2_go_89 : decode cX2_go 89 = .ok (.iload_n 3, 1) := by decide +kernel
theorem dX2_go_90 : decode cX2_go 90 = .ok (.ifCond .eq 7, 3) := by decide +kernel
theorem dX2_go_93 : decode cX2_go 93 = .ok (.iconst 0, 1) := by decide +kernel
theorem dX2_go_94 : decode cX2_go 94 = .ok (.goto 9, 3) := by decide +kernel
theorem dX2_go_97 : decode cX2_go 97 = .ok (.aload_n 0, 1) := by decide +kernel
theorem dX2_go_98 : decode cX2_go 98 = .ok (.getfield 78, 3) := by decide +kernel
theorem dX2_go_101 : decode cX2_go 101 = .ok (.iconst 0, 1) := by decide +kernel
theorem dX2_go_102 : decode cX2_go 102 = .ok (.iaload, 1) := by decide +kernel
theorem dX2_go_103 : decode cX2_go 103 = .ok (.iastore, 1) := by decide +kernel
theorem dX2_go_104 : decode cX2_go 104 = .ok (.aload_n 0, 1) := by decide +kernel
theorem dX2_go_105 : decode cX2_go 105 = .ok (.getfield 105, 3) := by decide +kernel
theorem dX2_go_108 : decode cX2_go 108 = .ok (.aload_n 0, 1) := by decide +kernel
theorem dX2_go_109 : decode cX2_go 109 = .ok (.getfield 254, 3) := by decide +kernel
theorem dX2_go_112 : decode cX2_go 112 = .ok (.aload_n 0, 1) := by decide +kernel
theorem dX2_go_113 : decode cX2_go 113 = .ok (.getfield 240, 3) := by decide +kernel
theorem dX2_go_116 : decode cX2_go 116 = .ok (.iastore, 1) := by decide +kernel
theorem dX2_go_117 : decode cX2_go 117 = .ok (.aload_n 0, 1) := by decide +kernel
theorem dX2_go_118 : decode cX2_go 118 = .ok (.getfield 108, 3) := by decide +kernel
theorem dX2_go_121 : decode cX2_go 121 = .ok (.aload_n 0, 1) := by decide +kernel
theorem dX2_go_122 : decode cX2_go 122 = .ok (.getfield 254, 3) := by decide +kernel
theorem dX2_go_125 : decode cX2_go 125 = .ok (.aload_n 0, 1) := by decide +kernel
theorem dX2_go_126 : decode cX2_go 126 = .ok (.getfield 69, 3) := by decide +kernel
theorem dX2_go_129 : decode cX2_go 129 = .ok (.iastore, 1) := by decide +kernel
theorem dX2_go_130 : decode cX2_go 130 = .ok (.aload_n 0, 1) := by decide +kernel
theorem dX2_go_131 : decode cX2_go 131 = .ok (.dup, 1) := by decide +kernel
theorem dX2_go_132 : decode cX2_go 132 = .ok (.getfield 254, 3) := by decide +kernel
theorem dX2_go_135 : decode cX2_go 135 = .ok (.iconst 1, 1) := by decide +kernel
theorem dX2_go_136 : decode cX2_go 136 = .ok (.iadd, 1) := by decide +kernel
theorem dX2_go_137 : decode cX2_go 137 = .ok (.putfield 254, 3) := by decide +kernel
theorem dX2_go_140 : decode cX2_go 140 = .ok (.iinc 2 1, 3) := by decide +kernel
theorem dX2_go_143 : decode cX2_go 143 = .ok (.goto (-129), 3) := by decide +kernel
theorem dX2_go_146 : decode cX2_go 146 = .ok (.aload_n 0, 1) := by decide +kernel
theorem dX2_go_147 : decode cX2_go 147 = .ok (.getfield 254, 3) := by decide +kernel
theorem dX2_go_150 : decode cX2_go 150 = .ok (.ireturn, 1) := by decide +kernel
set_option maxHeartbeats 4000000 in
theorem met_go (l : Launch) (D : va_G) (E : Nat → ClassId) (A : Nat → Prop) (h : Nat) (ad : Nat → Nat) (I : Nat → Int) (F : Nat → Int → Int) (nn : Int) (r_n : R32 nn) (gsh0 : gShip (I 26) (lotJ F 0) (lotG F 0)) (i26 : 0 ≤ I 26 ∧ I 26 ≤ 600) (gh0 : gHull I F) (gl0 : gLoad I F) (gm0 : gMark I F) (gs0 : gSea I F) (gt0 : gSet I) (gr0 : gRule F) : MM l yX2_go cX2_go 4 (some .int) (mrm 4) D E A h ad [.int (iI nn)] I F (MQi D E A h ad (fun z I1 F1 => ((0 ≤ nn ∧ nn ≤ 100) ∧ (goN I F nn.toNat (I 26) (lotJ F 0) (lotG F 0) F).1 = z ∧ (∃ f a b, va_up (va_up (va_up (va_up I 26 (goN I F nn.toNat (I 26) (lotJ F 0) (lotG F 0) F).1) 70 f) 66 a) 67 b = I1) ∧ ∃ g g1, setGo F (goN I F nn.toNat (I 26) (lotJ F 0) (lotG F 0) F).2.1 (goN I F nn.toNat (I 26) (lotJ F 0) (lotG F 0) F).2.2.1 (goN I F nn.toNat (I 26) (lotJ F 0) (lotG F 0) F).2.2.2 g g1 = F1) ∨ (¬ (0 ≤ nn ∧ nn ≤ 100) ∧ -1 = z ∧ I = I1 ∧ F = F1))) := by
  refine m_start (by decide) rfl (Nat.le_of_ble_eq_true rfl) ?_
  intro p e R s m args below meth c ls Q hR hQ hC hml hr hlk hM hS hl
  have hx := hC.1
  have hb := hC.2.1
  have hown := hC.2.2.1
  have hts := hC.2.2.2.1
  have hl : lv_has ls 4 [(0, .ref h), (1, .int (iI nn))] := hl
  obtain ⟨i22, i23, i24, i25⟩ := id gt0
  have i4 := gl0.1
  have i15 := gm0.1
  refine lv_iload_n hx hb dX2_go_0 rfl (lv_at hl 1 rfl) ?_
  refine r_iconst hx hb dX2_go_1 ?_
  refine r_bipush hx hb dX2_go_2 (by decide) ?_
  refine s_calli (kX2_X2_in (rest := []) (as := [.int (iI nn), .int (iI 0), .int (iI 100)]) hx hb hml hown hts (met_in l nn 0 100 r_n (by decide) (by decide)) ⟨rfl, rfl⟩ hR (by decide) rfl hl.1 rfl (Nat.le_of_ble_eq_true rfl) dX2_go_4) ?_
  refine r_ifneB (tgt := 12) hx hb dX2_go_7 (by decide) (fun c1 => ?_) (fun c1 => ?_)
  · refine r_iconst hx hb dX2_go_12 ?_
    refine lv_istore_n (lv' := [(2, .int (iI 0)), (0, .ref h), (1, .int (iI nn))]) hx hb dX2_go_13 rfl hl (by decide) rfl (fun ls hl => ?_)
    have loop14_2 : ∀ (n : Nat) (k : Int) (I1 : Nat → Int) (F1 : Nat → Int → Int), nn - k < (n : Int) → 0 ≤ k → k ≤ nn → (∃ (t : Int) (J : Nat → Int) (G K : Nat → Int → Int) (g g1 : Int → Int) (f a b : Int), I1 = va_up (va_up (va_up (va_up I 26 t) 70 f) 66 a) 67 b ∧ F1 = setGo F J G K g g1 ∧ goN I F (nn - k).toNat t J G K = goN I F nn.toNat (I 26) (lotJ F 0) (lotG F 0) F ∧ (0 ≤ t ∧ t ≤ 600) ∧ gShip t J G) → ∀ (H : Heap) (locs : List Loc) (ls : Array Slot), MW D E A h ad I1 F1 H → va_S A s.heap H locs → lv_has ls 4 [(2, .int (iI k)), (0, .ref h), (1, .int (iI nn))] → W p l e R s m args below meth c H locs 0 0 Q (F0 m 14 ls []) := by
      intro n
      induction n with
      | zero => intro k I1 F1 hn4 hk0 hk1 eS; exfalso; omega
      | succ n ih3 =>
        intro k I1 F1 hn4 hk0 hk1 eS H locs ls hM hS hl
        obtain ⟨t, J, G, K, g, g1, f, a, b, rfl, rfl, hRu, ht, gsh⟩ := eS
        have hLt := isLot_go F J G K g g1
        refine lv_iload_n hx hb dX2_go_14 rfl (lv_at hl 0 rfl) ?_
        refine lv_iload_n hx hb dX2_go_15 rfl (lv_at hl 2 rfl) ?_
        refine r_icmp_ge (tgt := 146) hx hb dX2_go_16 (by decide) (by omega) r_n (fun c5 => ?_) (fun c5 => ?_)
        · have er := goN_e I F (n := nn - k) (t := t) J G K (by omega)
          rw [hRu] at er
          refine lv_aload_n hx hb dX2_go_146 rfl (lv_at hl 1 rfl) ?_
          refine mg_26 (v := t) hC hM rfl dX2_go_147 ?_
          exact m_iret hC hQ hr hlk hM hS dX2_go_150 (Or.inl ⟨by omega, by rw [er], ⟨_, _, _, by rw [er]⟩, ⟨_, _, by rw [er]⟩⟩)
        · refine lv_aload_n hx hb dX2_go_19 rfl (lv_at hl 1 rfl) ?_
          refine mg_26 (v := t) hC hM rfl dX2_go_20 ?_
          refine r_sipush hx hb dX2_go_23 (by decide) ?_
          refine r_icmp_ge (tgt := 146) hx hb dX2_go_26 (by decide) (by omega) (by decide) (fun c6 => ?_) (fun c6 => ?_)
          · have er := goN_e I F (n := nn - k) (t := t) J G K (by omega)
            rw [hRu] at er
            refine lv_aload_n hx hb dX2_go_146 rfl (lv_at hl 1 rfl) ?_
            refine mg_26 (v := t) hC hM rfl dX2_go_147 ?_
            exact m_iret hC hQ hr hlk hM hS dX2_go_150 (Or.inl ⟨by omega, by rw [er], ⟨_, _, _, by rw [er]⟩, ⟨_, _, by rw [er]⟩⟩)
          · have b4 := gsh.2.2.2.2.1
            refine lv_aload_n hx hb dX2_go_29 rfl (lv_at hl 1 rfl) ?_
            refine mg_32 hC hM dX2_go_30 ?_
            refine r_iconst hx hb dX2_go_33 ?_
            refine ml_32 (v := J 4) hC hM (by decide) hLt.2.2.2.2.1 dX2_go_34 ?_
            refine lv_istore_n (lv' := [(3, .int (iI (J 4))), (2, .int (iI k)), (0, .ref h), (1, .int (iI nn))]) hx hb dX2_go_35 rfl hl (by decide) rfl (fun ls hl => ?_)
            refine lv_aload_n hx hb dX2_go_36 rfl (lv_at hl 2 rfl) ?_
            refine mg_40 hC hM dX2_go_37 ?_
            refine lv_aload_n hx hb dX2_go_40 rfl (lv_at hl 2 rfl) ?_
            refine mg_26 (v := t) hC hM rfl dX2_go_41 ?_
            refine lv_aload_n hx hb dX2_go_44 rfl (lv_at hl 2 rfl) ?_
            refine r_iconst hx hb dX2_go_45 ?_
            refine lv_aload_n hx hb dX2_go_46 rfl (lv_at hl 2 rfl) ?_
            refine mg_26 (v := t) hC hM rfl dX2_go_47 ?_
            refine lv_aload_n hx hb dX2_go_50 rfl (lv_at hl 2 rfl) ?_
            refine mg_25 (v := I 25) hC hM rfl dX2_go_51 ?_
            refine m_calli (kX2_goesOn (rest := [.int (iI t), .ref (ad 40)]) (as := [.int (iI 0), .int (iI t), .int (iI (I 25))]) hC hml (met_goesOn l D E A h ad (va_up (va_up (va_up (va_up I 26 t) 70 f) 66 a) 67 b) (setGo F J G K g g1) 0 t (I 25) J G (by decide) (by omega) (by omega) hLt (gsh.mono (by omega)) gh0 gl0 gm0 gs0 gt0 gr0) ⟨rfl, rfl⟩ hR (by decide) hM rfl hl.1 rfl (Nat.le_of_ble_eq_true rfl) dX2_go_54) hS (fun z7 I8 F9 H locs hp10 hM hS => ?_)
            obtain ⟨hz, ⟨a1, b1, hI⟩, ⟨g2, g3, hF⟩⟩ := hp10
            have ecJ := tkJ_cg (I := va_up (va_up (va_up (va_up I 26 t) 70 f) 66 a) 67 b) (F := setGo F J G K g g1) (I1 := I) (F1 := F) ⟨⟨rfl, rfl, rfl, rfl, rfl, rfl, rfl, rfl⟩, rfl, rfl, rfl, rfl, rfl, rfl, rfl, rfl, rfl, rfl, rfl, rfl, rfl, rfl, rfl, rfl, rfl, rfl, rfl, rfl⟩ t (I 25) J G
            have ecG := tkG_cg (I := va_up (va_up (va_up (va_up I 26 t) 70 f) 66 a) 67 b) (F := setGo F J G K g g1) (I1 := I) (F1 := F) ⟨⟨rfl, rfl, rfl, rfl, rfl, rfl, rfl, rfl⟩, rfl, rfl, rfl, rfl, rfl, rfl, rfl, rfl, rfl, rfl, rfl, rfl, rfl, rfl, rfl, rfl, rfl, rfl, rfl, rfl⟩ t (I 25) J G
            obtain ⟨J1, eJ1⟩ : ∃ x, x = tkJ I F t (I 25) J G := ⟨_, rfl⟩
            obtain ⟨G1, eG1⟩ : ∃ x, x = tkG I F t (I 25) J G := ⟨_, rfl⟩
            rw [ecJ, ← eJ1] at hz hI hF
            rw [ecG, ← eG1, setLot_setGo] at hF
            subst hz
            subst hI
            subst hF
            refine W.eq (g2 := F0 m 57 ls [.int (iI (J1 6)), .int (iI t), .ref (ad 40)]) rfl ?_
            have hLt := isLot_go F J1 G1 K g2 g3
            have b_wh : J1 6 = 0 ∨ J1 6 = 1 := by rw [eJ1]; exact tkJ6 _ _ _ _ _ _
            refine ms_40 (v := J1 6) hC hM hS (by omega) (by omega) dX2_go_57 (fun H locs hM hS => ?_)
            refine lv_aload_n hx hb dX2_go_58 rfl (lv_at hl 2 rfl) ?_
            refine mg_36 hC hM dX2_go_59 ?_
            refine lv_aload_n hx hb dX2_go_62 rfl (lv_at hl 2 rfl) ?_
            refine mg_26 (v := t) hC hM rfl dX2_go_63 ?_
            refine lv_iload_n hx hb dX2_go_66 rfl (lv_at hl 0 rfl) ?_
            have jn11 : W p l e R s m args below meth c H locs 0 0 Q (F0 m 80 ls [.int (iI (if J 4 ≠ 0 then 0 else J1 0)), .int (iI t), .ref (ad 36)]) := by
              refine ms_36 (v := if J 4 ≠ 0 then 0 else J1 0) hC hM hS (by omega) dX2_go_80 (fun H locs hM hS => ?_)
              refine lv_aload_n hx hb dX2_go_81 rfl (lv_at hl 2 rfl) ?_
              refine mg_37 hC hM dX2_go_82 ?_
              refine lv_aload_n hx hb dX2_go_85 rfl (lv_at hl 2 rfl) ?_
              refine mg_26 (v := t) hC hM rfl dX2_go_86 ?_
              refine lv_iload_n hx hb dX2_go_89 rfl (lv_at hl 0 rfl) ?_
              have jn12 : W p l e R s m args below meth c H locs 0 0 Q (F0 m 103 ls [.int (iI (if J 4 ≠ 0 then 0 else J1 1)), .int (iI t), .ref (ad 37)]) := by
                refine ms_37 (v := if J 4 ≠ 0 then 0 else J1 1) hC hM hS (by omega) dX2_go_103 (fun H locs hM hS => ?_)
                refine lv_aload_n hx hb dX2_go_104 rfl (lv_at hl 2 rfl) ?_
                refine mg_38 hC hM dX2_go_105 ?_
                refine lv_aload_n hx hb dX2_go_108 rfl (lv_at hl 2 rfl) ?_
                refine mg_26 (v := t) hC hM rfl dX2_go_109 ?_
                refine lv_aload_n hx hb dX2_go_112 rfl (lv_at hl 2 rfl) ?_
                refine mg_70 (v := J1 5) hC hM rfl dX2_go_113 ?_
                refine ms_38 (v := J1 5) hC hM hS (by omega) dX2_go_116 (fun H locs hM hS => ?_)
                refine lv_aload_n hx hb dX2_go_117 rfl (lv_at hl 2 rfl) ?_
                refine mg_39 hC hM dX2_go_118 ?_
                refine lv_aload_n hx hb dX2_go_121 rfl (lv_at hl 2 rfl) ?_
                refine mg_26 (v := t) hC hM rfl dX2_go_122 ?_
                refine lv_aload_n hx hb dX2_go_125 rfl (lv_at hl 2 rfl) ?_
                refine mg_24 (v := I 24) hC hM rfl dX2_go_126 ?_
                refine ms_39 (v := I 24) hC hM hS (by omega) dX2_go_129 (fun H locs hM hS => ?_)
                refine lv_aload_n hx hb dX2_go_130 rfl (lv_at hl 2 rfl) ?_
                refine lv_dup hx hb dX2_go_131 rfl ?_
                refine mg_26 (v := t) hC hM rfl dX2_go_132 ?_
                refine r_iconst hx hb dX2_go_135 ?_
                refine r_iadd hx hb dX2_go_136 ?_
                refine mp_26 hC hM hS dX2_go_137 (fun H locs hM hS => ?_)
                refine lv_iinc (v := iI (k + 1)) (lv' := [(2, .int (iI (k + 1))), (3, .int (iI (J 4))), (0, .ref h), (1, .int (iI nn))]) hx hb dX2_go_140 hl (k := 1) rfl (iI_add _ _) (by decide) rfl (fun ls hl => ?_)
                refine lv_goto (tgt := 14) hx hb dX2_go_143 (by decide) ?_
                exact ih3 (k + 1) (va_up (va_up (va_up (va_up (va_up (va_up (va_up (va_up I 26 t) 70 f) 66 a) 67 b) 70 (J1 5)) 66 a1) 67 b1) 26 (t + 1)) (upF (upF (upF (upF (upF (setGo F J1 G1 K g2 g3) 40 t (J1 6)) 36 t (if J 4 ≠ 0 then 0 else J1 0)) 37 t (if J 4 ≠ 0 then 0 else J1 1)) 38 t (J1 5)) 39 t (I 24)) (by omega) (by omega) (by omega) (⟨t + 1, J1, G1, gK I K t J J1, g2, g3, J1 5, a1, b1, (upGo I _ _ _ _ _ _ _ _).symm, (setGo_K I F J J1 G1 K g2 g3 t).symm, by rw [← hRu, goN_s I F J G K (by omega) (by omega), show nn - (k + 1) = nn - k - 1 by omega, eJ1, eG1], by omega, by rw [eJ1, eG1]; exact gShip_tick (by omega) i4 i15 gsh⟩) _ _ _ hM hS (lv_sub hl [0, 2, 3] rfl)
              refine r_if_eq (tgt := 97) hx hb dX2_go_90 (by decide) (by omega) (fun c13 => ?_) (fun c13 => ?_)
              · refine lv_aload_n hx hb dX2_go_97 rfl (lv_at hl 2 rfl) ?_
                refine mg_29 hC hM dX2_go_98 ?_
                refine r_iconst hx hb dX2_go_101 ?_
                refine ml_29 (v := J1 1) hC hM (by decide) hLt.2.1 dX2_go_102 ?_
                rw [if_neg (by omega)] at jn12
                exact jn12
              · refine r_iconst hx hb dX2_go_93 ?_
                refine lv_goto (tgt := 103) hx hb dX2_go_94 (by decide) ?_
                rw [if_pos (by omega)] at jn12
                exact jn12
            refine r_if_eq (tgt := 74) hx hb dX2_go_67 (by decide) (by omega) (fun c14 => ?_) (fun c14 => ?_)
            · refine lv_aload_n hx hb dX2_go_74 rfl (lv_at hl 2 rfl) ?_
              refine mg_28 hC hM dX2_go_75 ?_
              refine r_iconst hx hb dX2_go_78 ?_
              refine ml_28 (v := J1 0) hC hM (by decide) hLt.1 dX2_go_79 ?_
              rw [if_neg (by omega)] at jn11
              exact jn11
            · refine r_iconst hx hb dX2_go_70 ?_
              refine lv_goto (tgt := 80) hx hb dX2_go_71 (by decide) ?_
              rw [if_pos (by omega)] at jn11
              exact jn11
    exact loop14_2 ((nn - 0 : Int).toNat + 1) 0 I F (by omega) (by omega) (by omega) (⟨I 26, lotJ F 0, lotG F 0, F, F 71, F 72, I 70, I 66, I 67, (up4s I 26 70 66 67).symm, (setGo_self (isLot_of F 0)).symm, by rw [Int.sub_zero], i26, gsh0⟩) _ _ _ hM hS (lv_sub hl [0, 1, 2] rfl)
  · refine r_iconst hx hb dX2_go_10 ?_
    exact m_iret hC hQ hr hlk hM hS dX2_go_11 (Or.inr ⟨by omega, rfl, rfl, rfl⟩)
theorem up3s (I : Nat → Int) : va_up (va_up (va_up (va_up I 73 0) 70 (I 70)) 66 (I 66)) 67 (I 67) = va_up I 73 0 := by
  funext i
  by_cases h1 : i = 67
  · simp [va_up, h1]
  by_cases h2 : i = 66
  · simp [va_up, h2]
  by_cases h3 : i = 70
  · simp [va_up, h3]
  simp [va_up, h1, h2, h3]
theorem gr_step {J J1 : Nat → Int} {gr : Int} (hst : J1 6 = 0 → J1 0 = J 0) (h : absI (J 0) ≤ gr) : (if J1 6 ≠ 0 ∧ gr < absI (J1 0) then absI (J1 0) else gr) = if gr < absI (J1 0) then absI (J1 0) else gr := by
  by_cases c : J1 6 = 0
  · rw [hst c, if_neg (by omega), if_neg (by omega)]
  · by_cases d : gr < absI (J1 0)
    · rw [if_pos ⟨c, d⟩, if_pos d]
    · rw [if_neg (fun q => d q.2), if_neg d]
theorem dX2_tries_0 : decode cX2_tries 0 = .ok (.iconst 0, 1) := by decide +kernel
theorem dX2_tries_1 : decode cX2_tries 1 = .ok (.istore_n 3, 1) := by decide +kernel
theorem dX2_tries_2 : decode cX2_tries 2 = .ok (.iload_n 3, 1) := by decide +kernel
theorem dX2_tries_3 : decode cX2_tries 3 = .ok (.bipush 12, 2) := by decide +kernel
theorem dX2_tries_5 : decode cX2_tries 5 = .ok (.if_icmp .ge 24, 3) := by decide +kernel
theorem dX2_tries_8 : decode cX2_tries 8 = .ok (.aload_n 0, 1) := by decide +kernel
theorem dX2_tries_9 : decode cX2_tries 9 = .ok (.getfield 72, 3) := by decide +kernel
theorem dX2_tries_12 : decode cX2_tries 12 = .ok (.bipush 12, 2) := by decide +kernel
theorem dX2_tries_14 : decode cX2_tries 14 = .ok (.iload_n 3, 1) := by decide +kernel
theorem dX2_tries_15 : decode cX2_tries 15 = .ok (.iadd, 1) := by decide +kernel
theorem dX2_tries_16 : decode cX2_tries 16 = .ok (.aload_n 0, 1) := by decide +kernel
theorem dX2_tries_17 : decode cX2_tries 17 = .ok (.getfield 72, 3) := by decide +kernel
theorem dX2_tries_20 : decode cX2_tries 20 = .ok (.iload_n 3, 1) := by decide +kernel
theorem dX2_tries_21 : decode cX2_tries 21 = .ok (.iaload, 1) := by decide +kernel
theorem dX2_tries_22 : decode cX2_tries 22 = .ok (.iastore, 1) := by decide +kernel
theorem dX2_tries_23 : decode cX2_tries 23 = .ok (.iinc 3 1, 3) := by decide +kernel
theorem dX2_tries_26 : decode cX2_tries 26 = .ok (.goto (-24), 3) := by decide +kernel
theorem dX2_tries_29 : decode cX2_tries 29 = .ok (.iconst 0, 1) := by decide +kernel
theorem dX2_tries_30 : decode cX2_tries 30 = .ok (.istore_n 3, 1) := by decide +kernel
theorem dX2_tries_31 : decode cX2_tries 31 = .ok (.iload_n 3, 1) := by decide +kernel
theorem dX2_tries_32 : decode cX2_tries 32 = .ok (.bipush 6, 2) := by decide +kernel
theorem dX2_tries_34 : decode cX2_tries 34 = .ok (.if_icmp .ge 24, 3) := by decide +kernel
theorem dX2_tries_37 : decode cX2_tries 37 = .ok (.aload_n 0, 1) := by decide +kernel
theorem dX2_tries_38 : decode cX2_tries 38 = .ok (.getfield 90, 3) := by decide +kernel
theorem dX2_tries_41 : decode cX2_tries 41 = .ok (.bipush 6, 2) := by decide +kernel
theorem dX2_tries_43 : decode cX2_tries 43 = .ok (.iload_n 3, 1) := by decide +kernel
theorem dX2_tries_44 : decode cX2_tries 44 = .ok (.iadd, 1) := by decide +kernel
theorem dX2_tries_45 : decode cX2_tries 45 = .ok (.aload_n 0, 1) := by decide +kernel
theorem dX2_tries_46 : decode cX2_tries 46 = .ok (.getfield 90, 3) := by decide +kernel
theorem dX2_tries_49 : decode cX2_tries 49 = .ok (.iload_n 3, 1) := by decide +kernel
theorem dX2_tries_50 : decode cX2_tries 50 = .ok (.baload, 1) := by decide +kernel
theorem dX2_tries_51 : decode cX2_tries 51 = .ok (.bastore, 1) := by decide +kernel
theorem dX2_tries_52 : decode cX2_tries 52 = .ok (.iinc 3 1, 3) := by decide +kernel
theorem dX2_tries_55 : decode cX2_tries 55 = .ok (.goto (-24), 3) := by decide +kernel
theorem dX2_tries_58 : decode cX2_tries 58 = .ok (.aload_n 0, 1) := by decide +kernel
theorem dX2_tries_59 : decode cX2_tries 59 = .ok (.getfield 75, 3) := by decide +kernel
theorem dX2_tries_62 : decode cX2_tries 62 = .ok (.iconst 1, 1) := by decide +kernel
theorem dX2_tries_63 : decode cX2_tries 63 = .ok (.aload_n 0, 1) := by decide +kernel
theorem dX2_tries_64 : decode cX2_tries 64 = .ok (.getfield 75, 3) := by decide +kernel
theorem dX2_tries_67 : decode cX2_tries 67 = .ok (.iconst 0, 1) := by decide +kernel
theorem dX2_tries_68 : decode cX2_tries 68 = .ok (.iaload, 1) := by decide +kernel
theorem dX2_tries_69 : decode cX2_tries 69 = .ok (.iastore, 1) := by decide +kernel
theorem dX2_tries_70 : decode cX2_tries 70 = .ok (.aload_n 0, 1) := by decide +kernel
theorem dX2_tries_71 : decode cX2_tries 71 = .ok (.getfield 78, 3) := by decide +kernel
theorem dX2_tries_74 : decode cX2_tries 74 = .ok (.iconst 1, 1) := by decide +kernel
theorem dX2_tries_75 : decode cX2_tries 75 = .ok (.aload_n 0, 1) := by decide +kernel
theorem dX2_tries_76 : decode cX2_tries 76 = .ok (.getfield 78, 3) := by decide +kernel
theorem dX2_tries_79 : decode cX2_tries 79 = .ok (.iconst 0, 1) := by decide +kernel
theorem dX2_tries_80 : decode cX2_tries 80 = .ok (.iaload, 1) := by decide +kernel
theorem dX2_tries_81 : decode cX2_tries 81 = .ok (.iastore, 1) := by decide +kernel
theorem dX2_tries_82 : decode cX2_tries 82 = .ok (.aload_n 0, 1) := by decide +kernel
theorem dX2_tries_83 : decode cX2_tries 83 = .ok (.getfield 81, 3) := by decide +kernel
theorem dX2_tries_86 : decode cX2_tries 86 = .ok (.iconst 1, 1) := by decide +kernel
theorem dX2_tries_87 : decode cX2_tries 87 = .ok (.aload_n 0, 1) := by decide +kernel
theorem dX2_tries_88 : decode cX2_tries 88 = .ok (.getfield 81, 3) := by decide +kernel
theorem dX2_tries_91 : decode cX2_tries 91 = .ok (.iconst 0, 1) := by decide +kernel
theorem dX2_tries_92 : decode cX2_tries 92 = .ok (.iaload, 1) := by decide +kernel
theorem dX2_tries_93 : decode cX2_tries 93 = .ok (.iastore, 1) := by decide +kernel
theorem dX2_tries_94 : decode cX2_tries 94 = .ok (.aload_n 0, 1) := by decide +kernel
theorem dX2_tries_95 : decode cX2_tries 95 = .ok (.getfield 84, 3) := by decide +kernel
theorem dX2_tries_98 : decode cX2_tries 98 = .ok (.iconst 1, 1) := by decide +kernel
theorem dX2_tries_99 : decode cX2_tries 99 = .ok (.aload_n 0, 1) := by decide +kernel
theorem dX2_tries_100 : decode cX2_tries 100 = .ok (.getfield 84, 3) := by decide +kernel
theorem dX2_tries_103 : decode cX2_tries 103 = .ok (.iconst 0, 1) := by decide +kernel
theorem dX2_tries_104 : decode cX2_tries 104 = .ok (.iaload, 1) := by decide +kernel
theorem dX2_tries_105 : decode cX2_tries 105 = .ok (.iastore, 1) := by decide +kernel
theorem dX2_tries_106 : decode cX2_tries 106 = .ok (.aload_n 0, 1) := by decide +kernel
theorem dX2_tries_107 : decode cX2_tries 107 = .ok (.getfield 87, 3) := by decide +kernel
theorem dX2_tries_110 : decode cX2_tries 110 = .ok (.iconst 1, 1) := by decide +kernel
theorem dX2_tries_111 : decode cX2_tries 111 = .ok (.aload_n 0, 1) := by decide +kernel
theorem dX2_tries_112 : decode cX2_tries 112 = .ok (.getfield 87, 3) := by decide +kernel
theorem dX2_tries_115 : decode cX2_tries 115 = .ok (.iconst 0, 1) := by decide +kernel
theorem dX2_tries_116 : decode cX2_tries 116 = .ok (.baload, 1) := by decide +kernel
theorem dX2_tries_117 : decode cX2_tries 117 = .ok (.bastore, 1) := by decide +kernel
theorem dX2_tries_118 : decode cX2_tries 118 = .ok (.aload_n 0, 1) := by decide +kernel
theorem dX2_tries_119 : decode cX2_tries 119 = .ok (.getfield 240, 3) := by decide +kernel
theorem dX2_tries_122 : decode cX2_tries 122 = .ok (.istore_n 3, 1) := by decide +kernel
theorem dX2_tries_123 : decode cX2_tries 123 = .ok (.aload_n 0, 1) := by decide +kernel
theorem dX2_tries_124 : decode cX2_tries 124 = .ok (.iconst 0, 1) := by decide +kernel
theorem dX2_tries_125 : decode cX2_tries 125 = .ok (.putfield 362, 3) := by decide +kernel
theorem dX2_tries_128 : decode cX2_tries 128 = .ok (.iconst 0, 1) := by decide +kernel
theorem dX2_tries_129 : decode cX2_tries 129 = .ok (.istore 4, 2) := by decide +kernel
theorem dX2_tries_131 : decode cX2_tries 131 = .ok (.iload 4, 2) := by decide +kernel
theorem dX2_tries_133 : decode cX2_tries 133 = .ok (.iload_n 1, 1) := by decide +kernel
theorem dX2_tries_134 : decode cX2_tries 134 = .ok (.if_icmp .gt 93, 3) := by decide +kernel
theorem dX2_tries_137 : decode cX2_tries 137 = .ok (.aload_n 0, 1) := by decide +kernel
theorem dX2_tries_138 : decode cX2_tries 138 = .ok (.getfield 75, 3) := by decide +kernel
theorem dX2_tries_141 : decode cX2_tries 141 = .ok (.iconst 1, 1) := by decide +kernel
theorem dX2_tries_142 : decode cX2_tries 142 = .ok (.iaload, 1) := by decide +kernel
theorem dX2_tries_143 : decode cX2_tries 143 = .ok (.ifCond .ge 13, 3) := by decide +kernel
theorem dX2_tries_146 : decode cX2_tries 146 = .ok (.aload_n 0, 1) := by decide +kernel
theorem dX2_tries_147 : decode cX2_tries 147 = .ok (.getfield 75, 3) := by decide +kernel
theorem dX2_tries_150 : decode cX2_tries 150 = .ok (.iconst 1, 1) := by decide +kernel
theorem dX2_tries_151 : decode cX2_tries 151 = .ok (.iaload, 1) := by decide +kernel
theorem dX2_tries_152 : decode cX2_tries 152 = .ok (.ineg, 1) := by decide +kernel
theorem dX2_tries_153 : decode cX2_tries 153 = .ok (.goto 9, 3) := by decide +kernel
theorem dX2_tries_156 : decode cX2_tries 156 = .ok (.aload_n 0, 1) := by decide +kernel
theorem dX2_tries_157 : decode cX2_tries 157 = .ok (.getfield 75, 3) := by decide +kernel
theorem dX2_tries_160 : decode cX2_tries 160 = .ok (.iconst 1, 1) := by decide +kernel
theorem dX2_tries_161 : decode cX2_tries 161 = .ok (.iaload, 1) := by decide +kernel
theorem dX2_tries_162 : decode cX2_tries 162 = .ok (.istore 5, 2) := by decide +kernel
theorem dX2_tries_164 : decode cX2_tries 164 = .ok (.iload 5, 2) := by decide +kernel
theorem dX2_tries_166 : decode cX2_tries 166 = .ok (.aload_n 0, 1) := by decide +kernel
theorem dX2_tries_167 : decode cX2_tries 167 = .ok (.getfield 362, 3) := by decide +kernel
theorem dX2_tries_170 : decode cX2_tries 170 = .ok (.if_icmp .le 9, 3) := by decide +kernel
theorem dX2_tries_173 : decode cX2_tries 173 = .ok (.aload_n 0, 1) := by decide +kernel
theorem dX2_tries_174 : decode cX2_tries 174 = .ok (.iload 5, 2) := by decide +kernel
theorem dX2_tries_176 : decode cX2_tries 176 = .ok (.putfield 362, 3) := by decide +kernel
theorem dX2_tries_179 : decode cX2_tries 179 = .ok (.iload 4, 2) := by decide +kernel
theorem dX2_tries_181 : decode cX2_tries 181 = .ok (.iload_n 1, 1) := by decide +kernel
theorem dX2_tries_182 : decode cX2_tries 182 = .ok (.if_icmp .ge 36, 3) := by decide +kernel
theorem dX2_tries_185 : decode cX2_tries 185 = .ok (.aload_n 0, 1) := by decide +kernel
theorem dX2_tries_186 : decode cX2_tries 186 = .ok (.getfield 254, 3) := by decide +kernel
theorem dX2_tries_189 : decode cX2_tries 189 = .ok (.iload 4, 2) := by decide +kernel
theorem dX2_tries_191 : decode cX2_tries 191 = .ok (.iadd, 1) := by decide +kernel
theorem dX2_tries_192 : decode cX2_tries 192 = .ok (.sipush 600, 3) := by decide +kernel
theorem dX2_tries_195 : decode cX2_tries 195 = .ok (.if_icmp .ge 23, 3) := by decide +kernel
theorem dX2_tries_198 : decode cX2_tries 198 = .ok (.aload_n 0, 1) := by decide +kernel
theorem dX2_tries_199 : decode cX2_tries 199 = .ok (.iconst 1, 1) := by decide +kernel
theorem dX2_tries_200 : decode cX2_tries 200 = .ok (.aload_n 0, 1) := by decide +kernel
theorem dX2_tries_201 : decode cX2_tries 201 = .ok (.getfield 254, 3) := by decide +kernel
theorem dX2_tries_204 : decode cX2_tries 204 = .ok (.iload 4, 2) := by decide +kernel
theorem dX2_tries_206 : decode cX2_tries 206 = .ok (.iadd, 1) := by decide +kernel
theorem dX2_tries_207 : decode cX2_tries 207 = .ok (.iload_n 2, 1) := by decide +kernel
theorem dX2_tries_208 : decode cX2_tries 208 = .ok (.invokevirtual 257, 3) := by decide +kernel
theorem dX2_tries_211 : decode cX2_tries 211 = .ok (.ifCond .eq 7, 3) := by decide +kernel
theorem dX2_tries_214 : decode cX2_tries 214 = .ok (.iconst 1, 1) := by decide +kernel
theorem dX2_tries_215 : decode cX2_tries 215 = .ok (.goto 4, 3) := by decide +kernel
theorem dX2_tries_218 : decode cX2_tries 218 = .ok (.iconst 0, 1) := by decide +kernel
theorem dX2_tries_219 : decode cX2_tries 219 = .ok (.istore 6, 2) := by decide +kernel
theorem dX2_tries_221 : decode cX2_tries 221 = .ok (.iinc 4 1, 3) := by decide +kernel
theorem dX2_tries_224 : decode cX2_tries 224 = .ok (.goto (-93), 3) := by decide +kernel
theorem dX2_tries_227 : decode cX2_tries 227 = .ok (.aload_n 0, 1) := by decide +kernel
theorem dX2_tries_228 : decode cX2_tries 228 = .ok (.iload_n 3, 1) := by decide +kernel
theorem dX2_tries_229 : decode cX2_tries 229 = .ok (.putfield 240, 3) := by decide +kernel
theorem dX2_tries_232 : decode cX2_tries 232 = .ok (.return_, 1) := by decide +kernel
set_option maxHeartbeats 4000000 in
theorem met_tries (l : Launch) (D : va_G) (E : Nat → ClassId) (A : Nat → Prop) (h : Nat) (ad : Nat → Nat) (I : Nat → Int) (F : Nat → Int → Int) (nn fi : Int) (J0 : Nat → Int) (G0 : Nat → Int → Int) (hnn : 0 ≤ nn ∧ nn ≤ 120) (hfi : 0 ≤ fi ∧ fi ≤ 9) (hL0 : isLot F 0 J0 G0) (gsh0 : gShip (I 26) J0 G0) (i26 : 0 ≤ I 26 ∧ I 26 ≤ 600) (gh0 : gHull I F) (gl0 : gLoad I F) (gm0 : gMark I F) (gs0 : gSea I F) (gt0 : gSet I) (gr0 : gRule F) : MM l yX2_tries cX2_tries 7 none (mrm 4) D E A h ad [.int (iI nn), .int (iI fi)] I F (MQv D E A h ad (fun I1 F1 => (∃ a b, va_up (va_up (va_up I 73 (trN I F fi nn.toNat (I 26) J0 G0 (absI (J0 0))).2) 66 a) 67 b = I1) ∧ ∃ G g g1, setLot F 1 (trN I F fi nn.toNat (I 26) J0 G0 (absI (J0 0))).1 G g g1 = F1)) := by
  refine m_start (by decide) rfl (Nat.le_of_ble_eq_true rfl) ?_
  intro p e R s m args below meth c ls Q hR hQ hC hml hr hlk hM hS hl
  have hx := hC.1
  have hb := hC.2.1
  have hown := hC.2.2.1
  have hts := hC.2.2.2.1
  have hl : lv_has ls 7 [(0, .ref h), (1, .int (iI nn)), (2, .int (iI fi))] := hl
  obtain ⟨e28, e29, e30, e31, e32, e27, e33, e34, e35⟩ := id hL0
  obtain ⟨b0, b1, b2, b3, b4, b5, b6⟩ := id gsh0
  have i4 := gl0.1
  have i15 := gm0.1
  refine r_iconst hx hb dX2_tries_0 ?_
  refine lv_istore_n (lv' := [(3, .int (iI 0)), (0, .ref h), (1, .int (iI nn)), (2, .int (iI fi))]) hx hb dX2_tries_1 rfl hl (by decide) rfl (fun ls hl => ?_)
  have loop2_1 : ∀ (n : Nat) (k : Int) (F1 : Nat → Int → Int), 12 - k < (n : Int) → 0 ≤ k → k ≤ 12 → F1 = va_up F 27 (fedT (F 27) 12 (G0 0) k) → ∀ (H : Heap) (locs : List Loc) (ls : Array Slot), MW D E A h ad I F1 H → va_S A s.heap H locs → lv_has ls 7 [(3, .int (iI k)), (0, .ref h), (1, .int (iI nn)), (2, .int (iI fi))] → W p l e R s m args below meth c H locs 0 0 Q (F0 m 2 ls []) := by
    intro n
    induction n with
    | zero => intro k F1 hn3 hk0 hk1 eF; exfalso; omega
    | succ n ih2 =>
      intro k F1 hn3 hk0 hk1 eF H locs ls hM hS hl
      subst eF
      refine lv_iload_n hx hb dX2_tries_2 rfl (lv_at hl 0 rfl) ?_
      refine r_bipush hx hb dX2_tries_3 (by decide) ?_
      refine r_icmp_ge (tgt := 29) hx hb dX2_tries_5 (by decide) (by omega) (by decide) (fun c4 => ?_) (fun c4 => ?_)
      · have ek : k = 12 := by omega
        subst ek
        refine r_iconst hx hb dX2_tries_29 ?_
        refine lv_istore_n (lv' := [(3, .int (iI 0)), (0, .ref h), (1, .int (iI nn)), (2, .int (iI fi))]) hx hb dX2_tries_30 rfl hl (by decide) rfl (fun ls hl => ?_)
        have loop31_5 : ∀ (n : Nat) (j : Int) (F1 : Nat → Int → Int), 6 - j < (n : Int) → 0 ≤ j → j ≤ 6 → F1 = va_up (va_up F 27 (fedT (F 27) 12 (G0 0) 12)) 33 (fedT (F 33) 6 (G0 1) j) → ∀ (H : Heap) (locs : List Loc) (ls : Array Slot), MW D E A h ad I F1 H → va_S A s.heap H locs → lv_has ls 7 [(3, .int (iI j)), (0, .ref h), (1, .int (iI nn)), (2, .int (iI fi))] → W p l e R s m args below meth c H locs 0 0 Q (F0 m 31 ls []) := by
          intro n
          induction n with
          | zero => intro j F1 hn7 hj0 hj1 eF; exfalso; omega
          | succ n ih6 =>
            intro j F1 hn7 hj0 hj1 eF H locs ls hM hS hl
            subst eF
            refine lv_iload_n hx hb dX2_tries_31 rfl (lv_at hl 0 rfl) ?_
            refine r_bipush hx hb dX2_tries_32 (by decide) ?_
            refine r_icmp_ge (tgt := 58) hx hb dX2_tries_34 (by decide) (by omega) (by decide) (fun c8 => ?_) (fun c8 => ?_)
            · have ej : j = 6 := by omega
              subst ej
              refine lv_aload_n hx hb dX2_tries_58 rfl (lv_at hl 1 rfl) ?_
              refine mg_28 hC hM dX2_tries_59 ?_
              refine r_iconst hx hb dX2_tries_62 ?_
              refine lv_aload_n hx hb dX2_tries_63 rfl (lv_at hl 1 rfl) ?_
              refine mg_28 hC hM dX2_tries_64 ?_
              refine r_iconst hx hb dX2_tries_67 ?_
              refine ml_28 (v := J0 0) hC hM (by decide) e28 dX2_tries_68 ?_
              refine ms_28 (v := J0 0) hC hM hS (by decide) dX2_tries_69 (fun H locs hM hS => ?_)
              refine lv_aload_n hx hb dX2_tries_70 rfl (lv_at hl 1 rfl) ?_
              refine mg_29 hC hM dX2_tries_71 ?_
              refine r_iconst hx hb dX2_tries_74 ?_
              refine lv_aload_n hx hb dX2_tries_75 rfl (lv_at hl 1 rfl) ?_
              refine mg_29 hC hM dX2_tries_76 ?_
              refine r_iconst hx hb dX2_tries_79 ?_
              refine ml_29 (v := J0 1) hC hM (by decide) e29 dX2_tries_80 ?_
              refine ms_29 (v := J0 1) hC hM hS (by decide) dX2_tries_81 (fun H locs hM hS => ?_)
              refine lv_aload_n hx hb dX2_tries_82 rfl (lv_at hl 1 rfl) ?_
              refine mg_30 hC hM dX2_tries_83 ?_
              refine r_iconst hx hb dX2_tries_86 ?_
              refine lv_aload_n hx hb dX2_tries_87 rfl (lv_at hl 1 rfl) ?_
              refine mg_30 hC hM dX2_tries_88 ?_
              refine r_iconst hx hb dX2_tries_91 ?_
              refine ml_30 (v := J0 2) hC hM (by decide) e30 dX2_tries_92 ?_
              refine ms_30 (v := J0 2) hC hM hS (by decide) dX2_tries_93 (fun H locs hM hS => ?_)
              refine lv_aload_n hx hb dX2_tries_94 rfl (lv_at hl 1 rfl) ?_
              refine mg_31 hC hM dX2_tries_95 ?_
              refine r_iconst hx hb dX2_tries_98 ?_
              refine lv_aload_n hx hb dX2_tries_99 rfl (lv_at hl 1 rfl) ?_
              refine mg_31 hC hM dX2_tries_100 ?_
              refine r_iconst hx hb dX2_tries_103 ?_
              refine ml_31 (v := J0 3) hC hM (by decide) e31 dX2_tries_104 ?_
              refine ms_31 (v := J0 3) hC hM hS (by decide) dX2_tries_105 (fun H locs hM hS => ?_)
              refine lv_aload_n hx hb dX2_tries_106 rfl (lv_at hl 1 rfl) ?_
              refine mg_32 hC hM dX2_tries_107 ?_
              refine r_iconst hx hb dX2_tries_110 ?_
              refine lv_aload_n hx hb dX2_tries_111 rfl (lv_at hl 1 rfl) ?_
              refine mg_32 hC hM dX2_tries_112 ?_
              refine r_iconst hx hb dX2_tries_115 ?_
              refine ml_32 (v := J0 4) hC hM (by decide) e32 dX2_tries_116 ?_
              refine ms_32 (v := J0 4) hC hM hS (by decide) (by omega) dX2_tries_117 (fun H locs hM hS => ?_)
              refine lv_aload_n hx hb dX2_tries_118 rfl (lv_at hl 1 rfl) ?_
              refine mg_70 (v := I 70) hC hM rfl dX2_tries_119 ?_
              refine lv_istore_n (lv' := [(3, .int (iI (I 70))), (0, .ref h), (1, .int (iI nn)), (2, .int (iI fi))]) hx hb dX2_tries_122 rfl hl (by decide) rfl (fun ls hl => ?_)
              refine lv_aload_n hx hb dX2_tries_123 rfl (lv_at hl 1 rfl) ?_
              refine r_iconst hx hb dX2_tries_124 ?_
              refine mp_73 hC hM hS dX2_tries_125 (fun H locs hM hS => ?_)
              refine r_iconst hx hb dX2_tries_128 ?_
              refine lv_istore (lv' := [(4, .int (iI 0)), (3, .int (iI (I 70))), (0, .ref h), (1, .int (iI nn)), (2, .int (iI fi))]) hx hb dX2_tries_129 hl (by decide) rfl (fun ls hl => ?_)
              obtain ⟨Gt, eGt⟩ : ∃ x : Nat → Int → Int, x = (fun k => if k = 0 then G0 0 else if k = 1 then G0 1 else if k = 2 then (fun w => F 34 (6 * 1 + w)) else (fun w => F 35 (4 * 1 + w))) := ⟨_, rfl⟩
              have hM : MW D E A h ad (va_up I 73 0) (setLot F 1 J0 Gt (F 71) (F 72)) H := by
                rw [show setLot F 1 J0 Gt (F 71) (F 72) = upF (upF (upF (upF (upF (va_up (va_up F 27 (fedT (F 27) 12 (G0 0) 12)) 33 (fedT (F 33) 6 (G0 1) 6)) 28 1 (J0 0)) 29 1 (J0 1)) 30 1 (J0 2)) 31 1 (J0 3)) 32 1 (J0 4) from by subst eGt; exact setLot_ext rfl rfl rfl rfl rfl rfl rfl (fedT_id (fun _ _ _ => rfl)) (fedT_id (fun _ _ _ => rfl)) rfl rfl (fun k n27 n28 n29 n30 n31 n32 n33 n34 n35 n71 n72 => by simp [upF, va_up, n27, n28, n29, n30, n31, n32, n33])]
                exact hM
              have hg0 : Gt 0 = G0 0 ∧ Gt 1 = G0 1 := by subst eGt; exact ⟨rfl, rfl⟩
              have hab0 := absI_bd b0
              have loop131_9 : ∀ (n : Nat) (k : Int) (I1 : Nat → Int) (F1 : Nat → Int → Int), nn + 1 - k < (n : Int) → 0 ≤ k → k ≤ nn + 1 → (∃ (J : Nat → Int) (G : Nat → Int → Int) (gr x : Int) (g g1 : Int → Int) (f a b : Int), I1 = va_up (va_up (va_up (va_up I 73 x) 70 f) 66 a) 67 b ∧ F1 = setLot F 1 J G g g1 ∧ trN I F fi (nn - k).toNat (I 26 + k) J G gr = trN I F fi nn.toNat (I 26) J0 G0 (absI (J0 0)) ∧ gr = (if x < absI (J 0) then absI (J 0) else x) ∧ (0 ≤ x ∧ x ≤ 80) ∧ (k ≤ nn ∨ x = gr) ∧ gShip (I 26 + k) J G) → ∀ (H : Heap) (locs : List Loc) (ls : Array Slot), MW D E A h ad I1 F1 H → va_S A s.heap H locs → lv_has ls 7 [(4, .int (iI k)), (3, .int (iI (I 70))), (0, .ref h), (1, .int (iI nn)), (2, .int (iI fi))] → W p l e R s m args below meth c H locs 0 0 Q (F0 m 131 ls []) := by
                intro n
                induction n with
                | zero => intro k I1 F1 hn11 hk0 hk1 eS; exfalso; omega
                | succ n ih10 =>
                  intro k I1 F1 hn11 hk0 hk1 eS H locs ls hM hS hl
                  obtain ⟨J, G, gr, x, g, g1, f, a, b, rfl, rfl, hRu, hgr, hxb, hxg, gsh⟩ := eS
                  have hLt := isLot_set F 1 J G g g1
                  have bJ0 := gsh.1
                  have hab := absI_bd bJ0
                  refine lv_iload hx hb dX2_tries_131 (lv_at hl 0 rfl) ?_
                  refine lv_iload_n hx hb dX2_tries_133 rfl (lv_at hl 3 rfl) ?_
                  refine r_icmp_gt (tgt := 227) hx hb dX2_tries_134 (by decide) (by omega) (by omega) (fun c12 => ?_) (fun c12 => ?_)
                  · have er := trN_e I F fi (n := nn - k) (t := I 26 + k) J G gr (by omega)
                    rw [hRu] at er
                    have exg : x = gr := hxg.resolve_left (by omega)
                    refine lv_aload_n hx hb dX2_tries_227 rfl (lv_at hl 2 rfl) ?_
                    refine lv_iload_n hx hb dX2_tries_228 rfl (lv_at hl 1 rfl) ?_
                    refine mp_70 hC hM hS dX2_tries_229 (fun H locs hM hS => ?_)
                    exact m_vret hC hQ hr hlk hM hS dX2_tries_232 (⟨⟨a, b, by rw [er, ← exg]; exact upTr4 I x f a b⟩, ⟨_, _, _, by rw [er]⟩⟩)
                  · refine lv_aload_n hx hb dX2_tries_137 rfl (lv_at hl 2 rfl) ?_
                    refine mg_28 hC hM dX2_tries_138 ?_
                    refine r_iconst hx hb dX2_tries_141 ?_
                    refine ml_28 (v := J 0) hC hM (by decide) hLt.1 dX2_tries_142 ?_
                    have jn13 : W p l e R s m args below meth c H locs 0 0 Q (F0 m 162 ls [.int (iI (absI (J 0)))]) := by
                      refine lv_istore (lv' := [(5, .int (iI (absI (J 0)))), (4, .int (iI k)), (3, .int (iI (I 70))), (0, .ref h), (1, .int (iI nn)), (2, .int (iI fi))]) hx hb dX2_tries_162 hl (by decide) rfl (fun ls hl => ?_)
                      refine lv_iload hx hb dX2_tries_164 (lv_at hl 0 rfl) ?_
                      refine lv_aload_n hx hb dX2_tries_166 rfl (lv_at hl 3 rfl) ?_
                      refine mg_73 (v := x) hC hM rfl dX2_tries_167 ?_
                      refine r_icmp_le (tgt := 179) hx hb dX2_tries_170 (by decide) (by omega) (by omega) (fun c14 => ?_) (fun c14 => ?_)
                      · have exg : x = gr := by rw [hgr, if_neg (by omega)]
                        refine lv_iload hx hb dX2_tries_179 (lv_at hl 1 rfl) ?_
                        refine lv_iload_n hx hb dX2_tries_181 rfl (lv_at hl 4 rfl) ?_
                        refine r_icmp_ge (tgt := 218) hx hb dX2_tries_182 (by decide) (by omega) (by omega) (fun c15 => ?_) (fun c15 => ?_)
                        · refine r_iconst hx hb dX2_tries_218 ?_
                          refine lv_istore (lv' := [(6, .int (iI 0)), (5, .int (iI (absI (J 0)))), (4, .int (iI k)), (3, .int (iI (I 70))), (0, .ref h), (1, .int (iI nn)), (2, .int (iI fi))]) hx hb dX2_tries_219 hl (by decide) rfl (fun ls hl => ?_)
                          refine lv_iinc (v := iI (k + 1)) (lv' := [(4, .int (iI (k + 1))), (6, .int (iI 0)), (5, .int (iI (absI (J 0)))), (3, .int (iI (I 70))), (0, .ref h), (1, .int (iI nn)), (2, .int (iI fi))]) hx hb dX2_tries_221 hl (k := 2) rfl (iI_add _ _) (by decide) rfl (fun ls hl => ?_)
                          refine lv_goto (tgt := 131) hx hb dX2_tries_224 (by decide) ?_
                          exact ih10 (k + 1) (va_up (va_up (va_up (va_up I 73 x) 70 f) 66 a) 67 b) (setLot F 1 J G g g1) (by omega) (by omega) (by omega) (⟨J, G, gr, x, g, g1, f, a, b, rfl, rfl, by rw [trN_e I F fi J G gr (by omega), ← hRu, trN_e I F fi J G gr (by omega)], by rw [exg]; rw [if_neg (by unfold absI at *; omega)], by omega, Or.inr exg, gsh.mono (by omega)⟩) _ _ _ hM hS (lv_sub hl [0, 3, 4, 5, 6] rfl)
                        · refine lv_aload_n hx hb dX2_tries_185 rfl (lv_at hl 3 rfl) ?_
                          refine mg_26 (v := I 26) hC hM rfl dX2_tries_186 ?_
                          refine lv_iload hx hb dX2_tries_189 (lv_at hl 1 rfl) ?_
                          refine r_iadd hx hb dX2_tries_191 ?_
                          refine r_sipush hx hb dX2_tries_192 (by decide) ?_
                          refine r_icmp_ge (tgt := 218) hx hb dX2_tries_195 (by decide) (by omega) (by decide) (fun c16 => ?_) (fun c16 => ?_)
                          · refine r_iconst hx hb dX2_tries_218 ?_
                            refine lv_istore (lv' := [(6, .int (iI 0)), (5, .int (iI (absI (J 0)))), (4, .int (iI k)), (3, .int (iI (I 70))), (0, .ref h), (1, .int (iI nn)), (2, .int (iI fi))]) hx hb dX2_tries_219 hl (by decide) rfl (fun ls hl => ?_)
                            refine lv_iinc (v := iI (k + 1)) (lv' := [(4, .int (iI (k + 1))), (6, .int (iI 0)), (5, .int (iI (absI (J 0)))), (3, .int (iI (I 70))), (0, .ref h), (1, .int (iI nn)), (2, .int (iI fi))]) hx hb dX2_tries_221 hl (k := 2) rfl (iI_add _ _) (by decide) rfl (fun ls hl => ?_)
                            refine lv_goto (tgt := 131) hx hb dX2_tries_224 (by decide) ?_
                            exact ih10 (k + 1) (va_up (va_up (va_up (va_up I 73 x) 70 f) 66 a) 67 b) (setLot F 1 J G g g1) (by omega) (by omega) (by omega) (⟨J, G, gr, x, g, g1, f, a, b, rfl, rfl, by rw [trN_e I F fi J G gr (by omega), ← hRu, trN_e I F fi J G gr (by omega)], by rw [exg]; rw [if_neg (by unfold absI at *; omega)], by omega, Or.inr exg, gsh.mono (by omega)⟩) _ _ _ hM hS (lv_sub hl [0, 3, 4, 5, 6] rfl)
                          · refine lv_aload_n hx hb dX2_tries_198 rfl (lv_at hl 3 rfl) ?_
                            refine r_iconst hx hb dX2_tries_199 ?_
                            refine lv_aload_n hx hb dX2_tries_200 rfl (lv_at hl 3 rfl) ?_
                            refine mg_26 (v := I 26) hC hM rfl dX2_tries_201 ?_
                            refine lv_iload hx hb dX2_tries_204 (lv_at hl 1 rfl) ?_
                            refine r_iadd hx hb dX2_tries_206 ?_
                            refine lv_iload_n hx hb dX2_tries_207 rfl (lv_at hl 5 rfl) ?_
                            refine m_calli (kX2_goesOn (rest := []) (as := [.int (iI 1), .int (iI ((I 26) + k)), .int (iI fi)]) hC hml (met_goesOn l D E A h ad (va_up (va_up (va_up (va_up I 73 x) 70 f) 66 a) 67 b) (setLot F 1 J G g g1) 1 ((I 26) + k) fi J G (by decide) (by omega) (by omega) hLt (gsh.mono (by omega)) gh0 gl0 gm0 gs0 gt0 gr0) ⟨rfl, rfl⟩ hR (by decide) hM rfl hl.1 rfl (Nat.le_of_ble_eq_true rfl) dX2_tries_208) hS (fun z17 I18 F19 H locs hp20 hM hS => ?_)
                            obtain ⟨hz, ⟨a1, b1, hI⟩, ⟨g2, g3, hF⟩⟩ := hp20
                            have ecJ := tkJ_cg (I := va_up (va_up (va_up (va_up I 73 x) 70 f) 66 a) 67 b) (F := setLot F 1 J G g g1) (I1 := I) (F1 := F) ⟨⟨rfl, rfl, rfl, rfl, rfl, rfl, rfl, rfl⟩, rfl, rfl, rfl, rfl, rfl, rfl, rfl, rfl, rfl, rfl, rfl, rfl, rfl, rfl, rfl, rfl, rfl, rfl, rfl, rfl⟩ ((I 26) + k) fi J G
                            have ecG := tkG_cg (I := va_up (va_up (va_up (va_up I 73 x) 70 f) 66 a) 67 b) (F := setLot F 1 J G g g1) (I1 := I) (F1 := F) ⟨⟨rfl, rfl, rfl, rfl, rfl, rfl, rfl, rfl⟩, rfl, rfl, rfl, rfl, rfl, rfl, rfl, rfl, rfl, rfl, rfl, rfl, rfl, rfl, rfl, rfl, rfl, rfl, rfl, rfl⟩ ((I 26) + k) fi J G
                            obtain ⟨J1, eJ1⟩ : ∃ x, x = tkJ I F ((I 26) + k) fi J G := ⟨_, rfl⟩
                            obtain ⟨G1, eG1⟩ : ∃ x, x = tkG I F ((I 26) + k) fi J G := ⟨_, rfl⟩
                            rw [ecJ, ← eJ1] at hz hI hF
                            rw [ecG, ← eG1, setLot_setLot] at hF
                            subst hz
                            subst hI
                            subst hF
                            refine W.eq (g2 := F0 m 211 ls [.int (iI (J1 6))]) rfl ?_
                            have b_wh : J1 6 = 0 ∨ J1 6 = 1 := by rw [eJ1]; exact tkJ6 _ _ _ _ _ _
                            have hst : J1 6 = 0 → J1 0 = J 0 := by rw [eJ1]; exact tkJ_still
                            refine r_if_eq (tgt := 218) hx hb dX2_tries_211 (by decide) (by omega) (fun c21 => ?_) (fun c21 => ?_)
                            · refine r_iconst hx hb dX2_tries_218 ?_
                              refine lv_istore (lv' := [(6, .int (iI 0)), (5, .int (iI (absI (J 0)))), (4, .int (iI k)), (3, .int (iI (I 70))), (0, .ref h), (1, .int (iI nn)), (2, .int (iI fi))]) hx hb dX2_tries_219 hl (by decide) rfl (fun ls hl => ?_)
                              refine lv_iinc (v := iI (k + 1)) (lv' := [(4, .int (iI (k + 1))), (6, .int (iI 0)), (5, .int (iI (absI (J 0)))), (3, .int (iI (I 70))), (0, .ref h), (1, .int (iI nn)), (2, .int (iI fi))]) hx hb dX2_tries_221 hl (k := 2) rfl (iI_add _ _) (by decide) rfl (fun ls hl => ?_)
                              refine lv_goto (tgt := 131) hx hb dX2_tries_224 (by decide) ?_
                              exact ih10 (k + 1) (va_up (va_up (va_up (va_up (va_up (va_up (va_up I 73 x) 70 f) 66 a) 67 b) 70 (J1 5)) 66 a1) 67 b1) (setLot F 1 J1 G1 g2 g3) (by omega) (by omega) (by omega) (⟨J1, G1, (if J1 6 ≠ 0 ∧ gr < absI (J1 0) then absI (J1 0) else gr), x, g2, g3, J1 5, a1, b1, (upTr2 I (x) f a b (J1 5) a1 b1).symm, rfl, by rw [← hRu, trN_s I F fi J G gr (by omega) (by omega), show nn - (k + 1) = nn - k - 1 by omega, show I 26 + (k + 1) = I 26 + k + 1 by omega, ← eJ1, ← eG1], by rw [exg]; exact gr_step hst (by omega), by omega, Or.inl (by omega), by rw [eJ1, eG1, show I 26 + (k + 1) = I 26 + k + 1 by omega]; exact gShip_tick (by omega) i4 i15 gsh⟩) _ _ _ hM hS (lv_sub hl [0, 3, 4, 5, 6] rfl)
                            · refine r_iconst hx hb dX2_tries_214 ?_
                              refine lv_goto (tgt := 219) hx hb dX2_tries_215 (by decide) ?_
                              refine lv_istore (lv' := [(6, .int (iI 1)), (5, .int (iI (absI (J 0)))), (4, .int (iI k)), (3, .int (iI (I 70))), (0, .ref h), (1, .int (iI nn)), (2, .int (iI fi))]) hx hb dX2_tries_219 hl (by decide) rfl (fun ls hl => ?_)
                              refine lv_iinc (v := iI (k + 1)) (lv' := [(4, .int (iI (k + 1))), (6, .int (iI 1)), (5, .int (iI (absI (J 0)))), (3, .int (iI (I 70))), (0, .ref h), (1, .int (iI nn)), (2, .int (iI fi))]) hx hb dX2_tries_221 hl (k := 2) rfl (iI_add _ _) (by decide) rfl (fun ls hl => ?_)
                              refine lv_goto (tgt := 131) hx hb dX2_tries_224 (by decide) ?_
                              exact ih10 (k + 1) (va_up (va_up (va_up (va_up (va_up (va_up (va_up I 73 x) 70 f) 66 a) 67 b) 70 (J1 5)) 66 a1) 67 b1) (setLot F 1 J1 G1 g2 g3) (by omega) (by omega) (by omega) (⟨J1, G1, (if J1 6 ≠ 0 ∧ gr < absI (J1 0) then absI (J1 0) else gr), x, g2, g3, J1 5, a1, b1, (upTr2 I (x) f a b (J1 5) a1 b1).symm, rfl, by rw [← hRu, trN_s I F fi J G gr (by omega) (by omega), show nn - (k + 1) = nn - k - 1 by omega, show I 26 + (k + 1) = I 26 + k + 1 by omega, ← eJ1, ← eG1], by rw [exg]; exact gr_step hst (by omega), by omega, Or.inl (by omega), by rw [eJ1, eG1, show I 26 + (k + 1) = I 26 + k + 1 by omega]; exact gShip_tick (by omega) i4 i15 gsh⟩) _ _ _ hM hS (lv_sub hl [0, 3, 4, 5, 6] rfl)
                      · have exg : absI (J 0) = gr := by rw [hgr, if_pos (by omega)]
                        refine lv_aload_n hx hb dX2_tries_173 rfl (lv_at hl 3 rfl) ?_
                        refine lv_iload hx hb dX2_tries_174 (lv_at hl 0 rfl) ?_
                        refine mp_73 hC hM hS dX2_tries_176 (fun H locs hM hS => ?_)
                        rw [← upTr3 I x f a b (absI (J 0))] at hM
                        refine lv_iload hx hb dX2_tries_179 (lv_at hl 1 rfl) ?_
                        refine lv_iload_n hx hb dX2_tries_181 rfl (lv_at hl 4 rfl) ?_
                        refine r_icmp_ge (tgt := 218) hx hb dX2_tries_182 (by decide) (by omega) (by omega) (fun c22 => ?_) (fun c22 => ?_)
                        · refine r_iconst hx hb dX2_tries_218 ?_
                          refine lv_istore (lv' := [(6, .int (iI 0)), (5, .int (iI (absI (J 0)))), (4, .int (iI k)), (3, .int (iI (I 70))), (0, .ref h), (1, .int (iI nn)), (2, .int (iI fi))]) hx hb dX2_tries_219 hl (by decide) rfl (fun ls hl => ?_)
                          refine lv_iinc (v := iI (k + 1)) (lv' := [(4, .int (iI (k + 1))), (6, .int (iI 0)), (5, .int (iI (absI (J 0)))), (3, .int (iI (I 70))), (0, .ref h), (1, .int (iI nn)), (2, .int (iI fi))]) hx hb dX2_tries_221 hl (k := 2) rfl (iI_add _ _) (by decide) rfl (fun ls hl => ?_)
                          refine lv_goto (tgt := 131) hx hb dX2_tries_224 (by decide) ?_
                          exact ih10 (k + 1) (va_up (va_up (va_up (va_up I 73 (absI (J 0))) 70 f) 66 a) 67 b) (setLot F 1 J G g g1) (by omega) (by omega) (by omega) (⟨J, G, gr, absI (J 0), g, g1, f, a, b, rfl, rfl, by rw [trN_e I F fi J G gr (by omega), ← hRu, trN_e I F fi J G gr (by omega)], by rw [exg]; rw [if_neg (by unfold absI at *; omega)], by omega, Or.inr exg, gsh.mono (by omega)⟩) _ _ _ hM hS (lv_sub hl [0, 3, 4, 5, 6] rfl)
                        · refine lv_aload_n hx hb dX2_tries_185 rfl (lv_at hl 3 rfl) ?_
                          refine mg_26 (v := I 26) hC hM rfl dX2_tries_186 ?_
                          refine lv_iload hx hb dX2_tries_189 (lv_at hl 1 rfl) ?_
                          refine r_iadd hx hb dX2_tries_191 ?_
                          refine r_sipush hx hb dX2_tries_192 (by decide) ?_
                          refine r_icmp_ge (tgt := 218) hx hb dX2_tries_195 (by decide) (by omega) (by decide) (fun c23 => ?_) (fun c23 => ?_)
                          · refine r_iconst hx hb dX2_tries_218 ?_
                            refine lv_istore (lv' := [(6, .int (iI 0)), (5, .int (iI (absI (J 0)))), (4, .int (iI k)), (3, .int (iI (I 70))), (0, .ref h), (1, .int (iI nn)), (2, .int (iI fi))]) hx hb dX2_tries_219 hl (by decide) rfl (fun ls hl => ?_)
                            refine lv_iinc (v := iI (k + 1)) (lv' := [(4, .int (iI (k + 1))), (6, .int (iI 0)), (5, .int (iI (absI (J 0)))), (3, .int (iI (I 70))), (0, .ref h), (1, .int (iI nn)), (2, .int (iI fi))]) hx hb dX2_tries_221 hl (k := 2) rfl (iI_add _ _) (by decide) rfl (fun ls hl => ?_)
                            refine lv_goto (tgt := 131) hx hb dX2_tries_224 (by decide) ?_
                            exact ih10 (k + 1) (va_up (va_up (va_up (va_up I 73 (absI (J 0))) 70 f) 66 a) 67 b) (setLot F 1 J G g g1) (by omega) (by omega) (by omega) (⟨J, G, gr, absI (J 0), g, g1, f, a, b, rfl, rfl, by rw [trN_e I F fi J G gr (by omega), ← hRu, trN_e I F fi J G gr (by omega)], by rw [exg]; rw [if_neg (by unfold absI at *; omega)], by omega, Or.inr exg, gsh.mono (by omega)⟩) _ _ _ hM hS (lv_sub hl [0, 3, 4, 5, 6] rfl)
                          · refine lv_aload_n hx hb dX2_tries_198 rfl (lv_at hl 3 rfl) ?_
                            refine r_iconst hx hb dX2_tries_199 ?_
                            refine lv_aload_n hx hb dX2_tries_200 rfl (lv_at hl 3 rfl) ?_
                            refine mg_26 (v := I 26) hC hM rfl dX2_tries_201 ?_
                            refine lv_iload hx hb dX2_tries_204 (lv_at hl 1 rfl) ?_
                            refine r_iadd hx hb dX2_tries_206 ?_
                            refine lv_iload_n hx hb dX2_tries_207 rfl (lv_at hl 5 rfl) ?_
                            refine m_calli (kX2_goesOn (rest := []) (as := [.int (iI 1), .int (iI ((I 26) + k)), .int (iI fi)]) hC hml (met_goesOn l D E A h ad (va_up (va_up (va_up (va_up I 73 (absI (J 0))) 70 f) 66 a) 67 b) (setLot F 1 J G g g1) 1 ((I 26) + k) fi J G (by decide) (by omega) (by omega) hLt (gsh.mono (by omega)) gh0 gl0 gm0 gs0 gt0 gr0) ⟨rfl, rfl⟩ hR (by decide) hM rfl hl.1 rfl (Nat.le_of_ble_eq_true rfl) dX2_tries_208) hS (fun z24 I25 F26 H locs hp27 hM hS => ?_)
                            obtain ⟨hz, ⟨a1, b1, hI⟩, ⟨g2, g3, hF⟩⟩ := hp27
                            have ecJ := tkJ_cg (I := va_up (va_up (va_up (va_up I 73 (absI (J 0))) 70 f) 66 a) 67 b) (F := setLot F 1 J G g g1) (I1 := I) (F1 := F) ⟨⟨rfl, rfl, rfl, rfl, rfl, rfl, rfl, rfl⟩, rfl, rfl, rfl, rfl, rfl, rfl, rfl, rfl, rfl, rfl, rfl, rfl, rfl, rfl, rfl, rfl, rfl, rfl, rfl, rfl⟩ ((I 26) + k) fi J G
                            have ecG := tkG_cg (I := va_up (va_up (va_up (va_up I 73 (absI (J 0))) 70 f) 66 a) 67 b) (F := setLot F 1 J G g g1) (I1 := I) (F1 := F) ⟨⟨rfl, rfl, rfl, rfl, rfl, rfl, rfl, rfl⟩, rfl, rfl, rfl, rfl, rfl, rfl, rfl, rfl, rfl, rfl, rfl, rfl, rfl, rfl, rfl, rfl, rfl, rfl, rfl, rfl⟩ ((I 26) + k) fi J G
                            obtain ⟨J1, eJ1⟩ : ∃ x, x = tkJ I F ((I 26) + k) fi J G := ⟨_, rfl⟩
                            obtain ⟨G1, eG1⟩ : ∃ x, x = tkG I F ((I 26) + k) fi J G := ⟨_, rfl⟩
                            rw [ecJ, ← eJ1] at hz hI hF
                            rw [ecG, ← eG1, setLot_setLot] at hF
                            subst hz
                            subst hI
                            subst hF
                            refine W.eq (g2 := F0 m 211 ls [.int (iI (J1 6))]) rfl ?_
                            have b_wh : J1 6 = 0 ∨ J1 6 = 1 := by rw [eJ1]; exact tkJ6 _ _ _ _ _ _
                            have hst : J1 6 = 0 → J1 0 = J 0 := by rw [eJ1]; exact tkJ_still
                            refine r_if_eq (tgt := 218) hx hb dX2_tries_211 (by decide) (by omega) (fun c28 => ?_) (fun c28 => ?_)
                            · refine r_iconst hx hb dX2_tries_218 ?_
                              refine lv_istore (lv' := [(6, .int (iI 0)), (5, .int (iI (absI (J 0)))), (4, .int (iI k)), (3, .int (iI (I 70))), (0, .ref h), (1, .int (iI nn)), (2, .int (iI fi))]) hx hb dX2_tries_219 hl (by decide) rfl (fun ls hl => ?_)
                              refine lv_iinc (v := iI (k + 1)) (lv' := [(4, .int (iI (k + 1))), (6, .int (iI 0)), (5, .int (iI (absI (J 0)))), (3, .int (iI (I 70))), (0, .ref h), (1, .int (iI nn)), (2, .int (iI fi))]) hx hb dX2_tries_221 hl (k := 2) rfl (iI_add _ _) (by decide) rfl (fun ls hl => ?_)
                              refine lv_goto (tgt := 131) hx hb dX2_tries_224 (by decide) ?_
                              exact ih10 (k + 1) (va_up (va_up (va_up (va_up (va_up (va_up (va_up I 73 (absI (J 0))) 70 f) 66 a) 67 b) 70 (J1 5)) 66 a1) 67 b1) (setLot F 1 J1 G1 g2 g3) (by omega) (by omega) (by omega) (⟨J1, G1, (if J1 6 ≠ 0 ∧ gr < absI (J1 0) then absI (J1 0) else gr), absI (J 0), g2, g3, J1 5, a1, b1, (upTr2 I (absI (J 0)) f a b (J1 5) a1 b1).symm, rfl, by rw [← hRu, trN_s I F fi J G gr (by omega) (by omega), show nn - (k + 1) = nn - k - 1 by omega, show I 26 + (k + 1) = I 26 + k + 1 by omega, ← eJ1, ← eG1], by rw [exg]; exact gr_step hst (by omega), by omega, Or.inl (by omega), by rw [eJ1, eG1, show I 26 + (k + 1) = I 26 + k + 1 by omega]; exact gShip_tick (by omega) i4 i15 gsh⟩) _ _ _ hM hS (lv_sub hl [0, 3, 4, 5, 6] rfl)
                            · refine r_iconst hx hb dX2_tries_214 ?_
                              refine lv_goto (tgt := 219) hx hb dX2_tries_215 (by decide) ?_
                              refine lv_istore (lv' := [(6, .int (iI 1)), (5, .int (iI (absI (J 0)))), (4, .int (iI k)), (3, .int (iI (I 70))), (0, .ref h), (1, .int (iI nn)), (2, .int (iI fi))]) hx hb dX2_tries_219 hl (by decide) rfl (fun ls hl => ?_)
                              refine lv_iinc (v := iI (k + 1)) (lv' := [(4, .int (iI (k + 1))), (6, .int (iI 1)), (5, .int (iI (absI (J 0)))), (3, .int (iI (I 70))), (0, .ref h), (1, .int (iI nn)), (2, .int (iI fi))]) hx hb dX2_tries_221 hl (k := 2) rfl (iI_add _ _) (by decide) rfl (fun ls hl => ?_)
                              refine lv_goto (tgt := 131) hx hb dX2_tries_224 (by decide) ?_
                              exact ih10 (k + 1) (va_up (va_up (va_up (va_up (va_up (va_up (va_up I 73 (absI (J 0))) 70 f) 66 a) 67 b) 70 (J1 5)) 66 a1) 67 b1) (setLot F 1 J1 G1 g2 g3) (by omega) (by omega) (by omega) (⟨J1, G1, (if J1 6 ≠ 0 ∧ gr < absI (J1 0) then absI (J1 0) else gr), absI (J 0), g2, g3, J1 5, a1, b1, (upTr2 I (absI (J 0)) f a b (J1 5) a1 b1).symm, rfl, by rw [← hRu, trN_s I F fi J G gr (by omega) (by omega), show nn - (k + 1) = nn - k - 1 by omega, show I 26 + (k + 1) = I 26 + k + 1 by omega, ← eJ1, ← eG1], by rw [exg]; exact gr_step hst (by omega), by omega, Or.inl (by omega), by rw [eJ1, eG1, show I 26 + (k + 1) = I 26 + k + 1 by omega]; exact gShip_tick (by omega) i4 i15 gsh⟩) _ _ _ hM hS (lv_sub hl [0, 3, 4, 5, 6] rfl)
                    refine r_if_ge (tgt := 156) hx hb dX2_tries_143 (by decide) (by omega) (fun c29 => ?_) (fun c29 => ?_)
                    · refine lv_aload_n hx hb dX2_tries_156 rfl (lv_at hl 2 rfl) ?_
                      refine mg_28 hC hM dX2_tries_157 ?_
                      refine r_iconst hx hb dX2_tries_160 ?_
                      refine ml_28 (v := J 0) hC hM (by decide) hLt.1 dX2_tries_161 ?_
                      rw [show absI (J 0) = J 0 from if_neg (by omega)] at jn13
                      exact jn13
                    · refine lv_aload_n hx hb dX2_tries_146 rfl (lv_at hl 2 rfl) ?_
                      refine mg_28 hC hM dX2_tries_147 ?_
                      refine r_iconst hx hb dX2_tries_150 ?_
                      refine ml_28 (v := J 0) hC hM (by decide) hLt.1 dX2_tries_151 ?_
                      refine r_ineg hx hb dX2_tries_152 ?_
                      refine lv_goto (tgt := 162) hx hb dX2_tries_153 (by decide) ?_
                      rw [show absI (J 0) = -(J 0) from if_pos (by omega)] at jn13
                      exact jn13
              exact loop131_9 ((nn + 1 - 0 : Int).toNat + 1) 0 (va_up I 73 0) (setLot F 1 J0 Gt (F 71) (F 72)) (by omega) (by omega) (by omega) (⟨J0, Gt, absI (J0 0), 0, F 71, F 72, I 70, I 66, I 67, (up3s I).symm, rfl, by rw [Int.sub_zero, Int.add_zero]; exact trN_G _ _ _ _ _ _ hg0.1 hg0.2, by split <;> omega, by decide, Or.inl (by omega), by rw [Int.add_zero]; exact ⟨b0, b1, b2, b3, b4, by rw [hg0.1]; exact b5, by rw [hg0.2]; exact b6⟩⟩) _ _ _ hM hS (lv_sub hl [0, 1, 2, 3, 4] rfl)
            · have b6j := b6 j (by omega) (by omega)
              have e33j := e33 j (by omega) (by omega)
              rw [show 6 * 0 + j = j by omega] at e33j
              refine lv_aload_n hx hb dX2_tries_37 rfl (lv_at hl 1 rfl) ?_
              refine mg_33 hC hM dX2_tries_38 ?_
              refine r_bipush hx hb dX2_tries_41 (by decide) ?_
              refine lv_iload_n hx hb dX2_tries_43 rfl (lv_at hl 0 rfl) ?_
              refine r_iadd hx hb dX2_tries_44 ?_
              refine lv_aload_n hx hb dX2_tries_45 rfl (lv_at hl 1 rfl) ?_
              refine mg_33 hC hM dX2_tries_46 ?_
              refine lv_iload_n hx hb dX2_tries_49 rfl (lv_at hl 0 rfl) ?_
              refine ml_33 (v := G0 1 j) hC hM (by omega) (by show fedT (F 33) 6 (G0 1) j j = G0 1 j; rw [fedT_n (by omega)]; exact e33j) dX2_tries_50 ?_
              refine ms_33 (v := G0 1 j) hC hM hS (by omega) (by omega) dX2_tries_51 (fun H locs hM hS => ?_)
              rw [upF_up] at hM
              refine lv_iinc (v := iI (j + 1)) (lv' := [(3, .int (iI (j + 1))), (0, .ref h), (1, .int (iI nn)), (2, .int (iI fi))]) hx hb dX2_tries_52 hl (k := 0) rfl (iI_add _ _) (by decide) rfl (fun ls hl => ?_)
              refine lv_goto (tgt := 31) hx hb dX2_tries_55 (by decide) ?_
              exact ih6 (j + 1) (va_up (va_up F 27 (fedT (F 27) 12 (G0 0) 12)) 33 (updZ (fedT (F 33) 6 (G0 1) j) (6 + j) (G0 1 j))) (by omega) (by omega) (by omega) (congrArg (va_up (va_up F 27 (fedT (F 27) 12 (G0 0) 12)) 33) (fedT_s (F 33) 6 (G0 1) hj0)) _ _ _ hM hS (lv_sub hl [0, 1, 2, 3] rfl)
        exact loop31_5 ((6 - 0 : Int).toNat + 1) 0 (va_up F 27 (fedT (F 27) 12 (G0 0) 12)) (by omega) (by omega) (by omega) (by rw [fedT_0]; exact (up_self (va_up F 27 (fedT (F 27) 12 (G0 0) 12)) 33).symm) _ _ _ hM hS (lv_sub hl [0, 1, 2, 3] rfl)
      · have e27k := e27 k (by omega) (by omega)
        rw [show 12 * 0 + k = k by omega] at e27k
        refine lv_aload_n hx hb dX2_tries_8 rfl (lv_at hl 1 rfl) ?_
        refine mg_27 hC hM dX2_tries_9 ?_
        refine r_bipush hx hb dX2_tries_12 (by decide) ?_
        refine lv_iload_n hx hb dX2_tries_14 rfl (lv_at hl 0 rfl) ?_
        refine r_iadd hx hb dX2_tries_15 ?_
        refine lv_aload_n hx hb dX2_tries_16 rfl (lv_at hl 1 rfl) ?_
        refine mg_27 hC hM dX2_tries_17 ?_
        refine lv_iload_n hx hb dX2_tries_20 rfl (lv_at hl 0 rfl) ?_
        refine ml_27 (v := G0 0 k) hC hM (by omega) (by show fedT (F 27) 12 (G0 0) k k = G0 0 k; rw [fedT_n (by omega)]; exact e27k) dX2_tries_21 ?_
        refine ms_27 (v := G0 0 k) hC hM hS (by omega) dX2_tries_22 (fun H locs hM hS => ?_)
        rw [upF_up] at hM
        refine lv_iinc (v := iI (k + 1)) (lv' := [(3, .int (iI (k + 1))), (0, .ref h), (1, .int (iI nn)), (2, .int (iI fi))]) hx hb dX2_tries_23 hl (k := 0) rfl (iI_add _ _) (by decide) rfl (fun ls hl => ?_)
        refine lv_goto (tgt := 2) hx hb dX2_tries_26 (by decide) ?_
        exact ih2 (k + 1) (va_up F 27 (updZ (fedT (F 27) 12 (G0 0) k) (12 + k) (G0 0 k))) (by omega) (by omega) (by omega) (congrArg (va_up F 27) (fedT_s (F 27) 12 (G0 0) hk0)) _ _ _ hM hS (lv_sub hl [0, 1, 2, 3] rfl)
  exact loop2_1 ((12 - 0 : Int).toNat + 1) 0 F (by omega) (by omega) (by omega) (by rw [fedT_0, up_self]) _ _ _ hM hS (lv_sub hl [0, 1, 2, 3] rfl)
theorem dX2_tried_0 : decode cX2_tried 0 = .ok (.iload_n 1, 1) := by decide +kernel
theorem dX2_tried_1 : decode cX2_tried 1 = .ok (.iconst 0, 1) := by decide +kernel
theorem dX2_tried_2 : decode cX2_tried 2 = .ok (.bipush 120, 2) := by decide +kernel
theorem dX2_tried_4 : decode cX2_tried 4 = .ok (.invokestatic 173, 3) := by decide +kernel
theorem dX2_tried_7 : decode cX2_tried 7 = .ok (.ifCond .eq 12, 3) := by decide +kernel
theorem dX2_tried_10 : decode cX2_tried 10 = .ok (.iload_n 2, 1) := by decide +kernel
theorem dX2_tried_11 : decode cX2_tried 11 = .ok (.iconst 0, 1) := by decide +kernel
theorem dX2_tried_12 : decode cX2_tried 12 = .ok (.iconst 2, 1) := by decide +kernel
theorem dX2_tried_13 : decode cX2_tried 13 = .ok (.invokestatic 173, 3) := by decide +kernel
theorem dX2_tried_16 : decode cX2_tried 16 = .ok (.ifCond .ne 5, 3) := by decide +kernel
theorem dX2_tried_19 : decode cX2_tried 19 = .ok (.iconst (-1), 1) := by decide +kernel
theorem dX2_tried_20 : decode cX2_tried 20 = .ok (.ireturn, 1) := by decide +kernel
theorem dX2_tried_21 : decode cX2_tried 21 = .ok (.aload_n 0, 1) := by decide +kernel
theorem dX2_tried_22 : decode cX2_tried 22 = .ok (.iload_n 1, 1) := by decide +kernel
theorem dX2_tried_23 : decode cX2_tried 23 = .ok (.aload_n 0, 1) := by decide +kernel
theorem dX2_tried_24 : decode cX2_tried 24 = .ok (.getfield 237, 3) := by decide +kernel
theorem dX2_tried_27 : decode cX2_tried 27 = .ok (.invokevirtual 365, 3) := by decide +kernel
theorem dX2_tried_30 : decode cX2_tried 30 = .ok (.iload_n 2, 1) := by decide +kernel
theorem dX2_tried_31 : decode cX2_tried 31 = .ok (.ifCond .ne 10, 3) := by decide +kernel
theorem dX2_tried_34 : decode cX2_tried 34 = .ok (.aload_n 0, 1) := by decide +kernel
theorem dX2_tried_35 : decode cX2_tried 35 = .ok (.getfield 362, 3) := by decide +kernel
theorem dX2_tried_38 : decode cX2_tried 38 = .ok (.goto 23, 3) := by decide +kernel
theorem dX2_tried_41 : decode cX2_tried 41 = .ok (.iload_n 2, 1) := by decide +kernel
theorem dX2_tried_42 : decode cX2_tried 42 = .ok (.iconst 1, 1) := by decide +kernel
theorem dX2_tried_43 : decode cX2_tried 43 = .ok (.if_icmp .ne 12, 3) := by decide +kernel
theorem dX2_tried_46 : decode cX2_tried 46 = .ok (.aload_n 0, 1) := by decide +kernel
theorem dX2_tried_47 : decode cX2_tried 47 = .ok (.getfield 81, 3) := by decide +kernel
theorem dX2_tried_50 : decode cX2_tried 50 = .ok (.iconst 1, 1) := by decide +kernel
theorem dX2_tried_51 : decode cX2_tried 51 = .ok (.iaload, 1) := by decide +kernel
theorem dX2_tried_52 : decode cX2_tried 52 = .ok (.goto 9, 3) := by decide +kernel
theorem dX2_tried_55 : decode cX2_tried 55 = .ok (.aload_n 0, 1) := by decide +kernel
theorem dX2_tried_56 : decode cX2_tried 56 = .ok (.getfield 84, 3) := by decide +kernel
theorem dX2_tried_59 : decode cX2_tried 59 = .ok (.iconst 1, 1) := by decide +kernel
theorem dX2_tried_60 : decode cX2_tried 60 = .ok (.iaload, 1) := by decide +kernel
theorem dX2_tried_61 : decode cX2_tried 61 = .ok (.ireturn, 1) := by decide +kernel
set_option maxHeartbeats 4000000 in
theorem met_tried (l : Launch) (D : va_G) (E : Nat → ClassId) (A : Nat → Prop) (h : Nat) (ad : Nat → Nat) (I : Nat → Int) (F : Nat → Int → Int) (nn wh : Int) (r_n : R32 nn) (r_w : R32 wh) (gsh0 : gShip (I 26) (lotJ F 0) (lotG F 0)) (i26 : 0 ≤ I 26 ∧ I 26 ≤ 600) (gh0 : gHull I F) (gl0 : gLoad I F) (gm0 : gMark I F) (gs0 : gSea I F) (gt0 : gSet I) (gr0 : gRule F) : MM l yX2_tried cX2_tried 3 (some .int) (mrm 5) D E A h ad [.int (iI nn), .int (iI wh)] I F (MQi D E A h ad (fun z I1 F1 => triedS I F nn wh = z ∧ (∃ x a b, va_up (va_up (va_up I 73 x) 66 a) 67 b = I1) ∧ ∃ J G g g1, setLot F 1 J G g g1 = F1)) := by
  refine m_start (by decide) rfl (Nat.le_of_ble_eq_true rfl) ?_
  intro p e R s m args below meth c ls Q hR hQ hC hml hr hlk hM hS hl
  have hx := hC.1
  have hb := hC.2.1
  have hown := hC.2.2.1
  have hts := hC.2.2.2.1
  have hl : lv_has ls 3 [(0, .ref h), (1, .int (iI nn)), (2, .int (iI wh))] := hl
  obtain ⟨i22, i23, i24, i25⟩ := id gt0
  refine lv_iload_n hx hb dX2_tried_0 rfl (lv_at hl 1 rfl) ?_
  refine r_iconst hx hb dX2_tried_1 ?_
  refine r_bipush hx hb dX2_tried_2 (by decide) ?_
  refine s_calli (kX2_X2_in (rest := []) (as := [.int (iI nn), .int (iI 0), .int (iI 120)]) hx hb hml hown hts (met_in l nn 0 120 r_n (by decide) (by decide)) ⟨rfl, rfl⟩ hR (by decide) rfl hl.1 rfl (Nat.le_of_ble_eq_true rfl) dX2_tried_4) ?_
  refine r_ifeqB (tgt := 19) hx hb dX2_tried_7 (by decide) (fun c1 => ?_) (fun c1 => ?_)
  · refine r_iconst hx hb dX2_tried_19 ?_
    exact m_iret hC hQ hr hlk hM hS dX2_tried_20 (⟨if_neg (by omega), ⟨I 73, I 66, I 67, by rw [up_self, up_self, up_self]⟩, ⟨lotJ F 1, lotG F 1, F 71, F 72, setLot_self (isLot_of F 1)⟩⟩)
  · refine lv_iload_n hx hb dX2_tried_10 rfl (lv_at hl 2 rfl) ?_
    refine r_iconst hx hb dX2_tried_11 ?_
    refine r_iconst hx hb dX2_tried_12 ?_
    refine s_calli (kX2_X2_in (rest := []) (as := [.int (iI wh), .int (iI 0), .int (iI 2)]) hx hb hml hown hts (met_in l wh 0 2 r_w (by decide) (by decide)) ⟨rfl, rfl⟩ hR (by decide) rfl hl.1 rfl (Nat.le_of_ble_eq_true rfl) dX2_tried_13) ?_
    refine r_ifneB (tgt := 21) hx hb dX2_tried_16 (by decide) (fun c2 => ?_) (fun c2 => ?_)
    · refine lv_aload_n hx hb dX2_tried_21 rfl (lv_at hl 0 rfl) ?_
      refine lv_iload_n hx hb dX2_tried_22 rfl (lv_at hl 1 rfl) ?_
      refine lv_aload_n hx hb dX2_tried_23 rfl (lv_at hl 0 rfl) ?_
      refine mg_25 (v := I 25) hC hM rfl dX2_tried_24 ?_
      refine m_callv (kX2_tries (rest := []) (as := [.int (iI nn), .int (iI (I 25))]) hC hml (met_tries l D E A h ad I F nn (I 25) (lotJ F 0) (lotG F 0) (by omega) (by omega) (isLot_of F 0) gsh0 i26 gh0 gl0 gm0 gs0 gt0 gr0) ⟨rfl, rfl⟩ hR (by decide) hM rfl hl.1 rfl (Nat.le_of_ble_eq_true rfl) dX2_tried_27) hS (fun I4 F5 H locs hp6 hM hS => ?_)
      obtain ⟨⟨a, b, rfl⟩, ⟨Gq, g, g1, rfl⟩⟩ := hp6
      refine lv_iload_n hx hb dX2_tried_30 rfl (lv_at hl 2 rfl) ?_
      refine r_if_ne (tgt := 41) hx hb dX2_tried_31 (by decide) r_w (fun c7 => ?_) (fun c7 => ?_)
      · refine lv_iload_n hx hb dX2_tried_41 rfl (lv_at hl 2 rfl) ?_
        refine r_iconst hx hb dX2_tried_42 ?_
        refine r_icmp_ne (tgt := 55) hx hb dX2_tried_43 (by decide) r_w (by decide) (fun c8 => ?_) (fun c8 => ?_)
        · refine lv_aload_n hx hb dX2_tried_55 rfl (lv_at hl 0 rfl) ?_
          refine mg_31 hC hM dX2_tried_56 ?_
          refine r_iconst hx hb dX2_tried_59 ?_
          refine ml_31 (v := (trR I F (I 25) nn).1 3) hC hM (by decide) (show updZ (F 31) 1 ((trR I F (I 25) nn).1 3) 1 = _ from updZ_s) dX2_tried_60 ?_
          exact m_iret hC hQ hr hlk hM hS dX2_tried_61 (⟨by unfold triedS; rw [if_pos (by omega)]; split <;> (try split) <;> first | rfl | omega, ⟨_, _, _, rfl⟩, ⟨_, _, _, _, rfl⟩⟩)
        · refine lv_aload_n hx hb dX2_tried_46 rfl (lv_at hl 0 rfl) ?_
          refine mg_30 hC hM dX2_tried_47 ?_
          refine r_iconst hx hb dX2_tried_50 ?_
          refine ml_30 (v := (trR I F (I 25) nn).1 2) hC hM (by decide) (show updZ (F 30) 1 ((trR I F (I 25) nn).1 2) 1 = _ from updZ_s) dX2_tried_51 ?_
          refine lv_goto (tgt := 61) hx hb dX2_tried_52 (by decide) ?_
          exact m_iret hC hQ hr hlk hM hS dX2_tried_61 (⟨by unfold triedS; rw [if_pos (by omega)]; split <;> (try split) <;> first | rfl | omega, ⟨_, _, _, rfl⟩, ⟨_, _, _, _, rfl⟩⟩)
      · refine lv_aload_n hx hb dX2_tried_34 rfl (lv_at hl 0 rfl) ?_
        refine mg_73 (v := (trR I F (I 25) nn).2) hC hM rfl dX2_tried_35 ?_
        refine lv_goto (tgt := 61) hx hb dX2_tried_38 (by decide) ?_
        exact m_iret hC hQ hr hlk hM hS dX2_tried_61 (⟨by unfold triedS; rw [if_pos (by omega)]; split <;> (try split) <;> first | rfl | omega, ⟨_, _, _, rfl⟩, ⟨_, _, _, _, rfl⟩⟩)
    · refine r_iconst hx hb dX2_tried_19 ?_
      exact m_iret hC hQ hr hlk hM hS dX2_tried_20 (⟨if_neg (by omega), ⟨I 73, I 66, I 67, by rw [up_self, up_self, up_self]⟩, ⟨lotJ F 1, lotG F 1, F 71, F 72, setLot_self (isLot_of F 1)⟩⟩)
theorem dX2_still_0 : decode cX2_still 0 = .ok (.iload_n 1, 1) := by decide +kernel
theorem dX2_still_1 : decode cX2_still 1 = .ok (.iconst 0, 1) := by decide +kernel
theorem dX2_still_2 : decode cX2_still 2 = .ok (.bipush 120, 2) := by decide +kernel
theorem dX2_still_4 : decode cX2_still 4 = .ok (.invokestatic 173, 3) := by decide +kernel
theorem dX2_still_7 : decode cX2_still 7 = .ok (.ifCond .ne 5, 3) := by decide +kernel
theorem dX2_still_10 : decode cX2_still 10 = .ok (.iconst (-1), 1) := by decide +kernel
theorem dX2_still_11 : decode cX2_still 11 = .ok (.ireturn, 1) := by decide +kernel
theorem dX2_still_12 : decode cX2_still 12 = .ok (.iconst 0, 1) := by decide +kernel
theorem dX2_still_13 : decode cX2_still 13 = .ok (.istore_n 2, 1) := by decide +kernel
theorem dX2_still_14 : decode cX2_still 14 = .ok (.bipush 81, 2) := by decide +kernel
theorem dX2_still_16 : decode cX2_still 16 = .ok (.istore_n 3, 1) := by decide +kernel
theorem dX2_still_17 : decode cX2_still 17 = .ok (.iconst 0, 1) := by decide +kernel
theorem dX2_still_18 : decode cX2_still 18 = .ok (.istore 4, 2) := by decide +kernel
theorem dX2_still_20 : decode cX2_still 20 = .ok (.iload 4, 2) := by decide +kernel
theorem dX2_still_22 : decode cX2_still 22 = .ok (.bipush 10, 2) := by decide +kernel
theorem dX2_still_24 : decode cX2_still 24 = .ok (.if_icmp .ge 35, 3) := by decide +kernel
theorem dX2_still_27 : decode cX2_still 27 = .ok (.aload_n 0, 1) := by decide +kernel
theorem dX2_still_28 : decode cX2_still 28 = .ok (.iload_n 1, 1) := by decide +kernel
theorem dX2_still_29 : decode cX2_still 29 = .ok (.iload 4, 2) := by decide +kernel
theorem dX2_still_31 : decode cX2_still 31 = .ok (.invokevirtual 365, 3) := by decide +kernel
theorem dX2_still_34 : decode cX2_still 34 = .ok (.aload_n 0, 1) := by decide +kernel
theorem dX2_still_35 : decode cX2_still 35 = .ok (.getfield 362, 3) := by decide +kernel
theorem dX2_still_38 : decode cX2_still 38 = .ok (.iload_n 3, 1) := by decide +kernel
theorem dX2_still_39 : decode cX2_still 39 = .ok (.if_icmp .lt 6, 3) := by decide +kernel
theorem dX2_still_42 : decode cX2_still 42 = .ok (.goto 11, 3) := by decide +kernel
theorem dX2_still_45 : decode cX2_still 45 = .ok (.aload_n 0, 1) := by decide +kernel
theorem dX2_still_46 : decode cX2_still 46 = .ok (.getfield 362, 3) := by decide +kernel
theorem dX2_still_49 : decode cX2_still 49 = .ok (.istore_n 3, 1) := by decide +kernel
theorem dX2_still_50 : decode cX2_still 50 = .ok (.iload 4, 2) := by decide +kernel
theorem dX2_still_52 : decode cX2_still 52 = .ok (.istore_n 2, 1) := by decide +kernel
theorem dX2_still_53 : decode cX2_still 53 = .ok (.iinc 4 1, 3) := by decide +kernel
theorem dX2_still_56 : decode cX2_still 56 = .ok (.goto (-36), 3) := by decide +kernel
theorem dX2_still_59 : decode cX2_still 59 = .ok (.iload_n 2, 1) := by decide +kernel
theorem dX2_still_60 : decode cX2_still 60 = .ok (.ireturn, 1) := by decide +kernel
set_option maxHeartbeats 4000000 in
theorem met_still (l : Launch) (D : va_G) (E : Nat → ClassId) (A : Nat → Prop) (h : Nat) (ad : Nat → Nat) (I : Nat → Int) (F : Nat → Int → Int) (nn : Int) (r_n : R32 nn) (gsh0 : gShip (I 26) (lotJ F 0) (lotG F 0)) (i26 : 0 ≤ I 26 ∧ I 26 ≤ 600) (gh0 : gHull I F) (gl0 : gLoad I F) (gm0 : gMark I F) (gs0 : gSea I F) (gt0 : gSet I) (gr0 : gRule F) : MM l yX2_still cX2_still 5 (some .int) (mrm 5) D E A h ad [.int (iI nn)] I F (MQi D E A h ad (fun z I1 F1 => stillS I F nn = z ∧ (∃ x a b, va_up (va_up (va_up I 73 x) 66 a) 67 b = I1) ∧ ∃ J G g g1, setLot F 1 J G g g1 = F1)) := by
  refine m_start (by decide) rfl (Nat.le_of_ble_eq_true rfl) ?_
  intro p e R s m args below meth c ls Q hR hQ hC hml hr hlk hM hS hl
  have hx := hC.1
  have hb := hC.2.1
  have hown := hC.2.2.1
  have hts := hC.2.2.2.1
  have hl : lv_has ls 5 [(0, .ref h), (1, .int (iI nn))] := hl
  have i4 := gl0.1
  have i15 := gm0.1
  refine lv_iload_n hx hb dX2_still_0 rfl (lv_at hl 1 rfl) ?_
  refine r_iconst hx hb dX2_still_1 ?_
  refine r_bipush hx hb dX2_still_2 (by decide) ?_
  refine s_calli (kX2_X2_in (rest := []) (as := [.int (iI nn), .int (iI 0), .int (iI 120)]) hx hb hml hown hts (met_in l nn 0 120 r_n (by decide) (by decide)) ⟨rfl, rfl⟩ hR (by decide) rfl hl.1 rfl (Nat.le_of_ble_eq_true rfl) dX2_still_4) ?_
  refine r_ifneB (tgt := 12) hx hb dX2_still_7 (by decide) (fun c1 => ?_) (fun c1 => ?_)
  · have hgb : ∀ fi, 0 ≤ (trR I F fi nn).2 ∧ (trR I F fi nn).2 ≤ 80 := fun fi => trN_bd i4 i15 _ _ (I 26) _ _ _ i26.1 gsh0 (absI_bd gsh0.1)
    refine r_iconst hx hb dX2_still_12 ?_
    refine lv_istore_n (lv' := [(2, .int (iI 0)), (0, .ref h), (1, .int (iI nn))]) hx hb dX2_still_13 rfl hl (by decide) rfl (fun ls hl => ?_)
    refine r_bipush hx hb dX2_still_14 (by decide) ?_
    refine lv_istore_n (lv' := [(3, .int (iI 81)), (2, .int (iI 0)), (0, .ref h), (1, .int (iI nn))]) hx hb dX2_still_16 rfl hl (by decide) rfl (fun ls hl => ?_)
    refine r_iconst hx hb dX2_still_17 ?_
    refine lv_istore (lv' := [(4, .int (iI 0)), (3, .int (iI 81)), (2, .int (iI 0)), (0, .ref h), (1, .int (iI nn))]) hx hb dX2_still_18 hl (by decide) rfl (fun ls hl => ?_)
    have loop20_2 : ∀ (n : Nat) (best least f : Int) (I1 : Nat → Int) (F1 : Nat → Int → Int), 10 - f < (n : Int) → 0 ≤ f → f ≤ 10 → 0 ≤ least ∧ least ≤ 81 → (best, least) = stN (fun f => (trR I F f nn).2) f.toNat → (∃ x a b, I1 = va_up (va_up (va_up I 73 x) 66 a) 67 b) → (∃ J G g g1, F1 = setLot F 1 J G g g1) → ∀ (H : Heap) (locs : List Loc) (ls : Array Slot), MW D E A h ad I1 F1 H → va_S A s.heap H locs → lv_has ls 5 [(4, .int (iI f)), (3, .int (iI least)), (2, .int (iI best)), (0, .ref h), (1, .int (iI nn))] → W p l e R s m args below meth c H locs 0 0 Q (F0 m 20 ls []) := by
      intro n
      induction n with
      | zero => intro best least f I1 F1 hn4 hf0 hf1 hle eb eI eF; exfalso; omega
      | succ n ih3 =>
        intro best least f I1 F1 hn4 hf0 hf1 hle eb eI eF H locs ls hM hS hl
        obtain ⟨x, a, b, rfl⟩ := eI
        obtain ⟨J, G, g, g1, rfl⟩ := eF
        refine lv_iload hx hb dX2_still_20 (lv_at hl 0 rfl) ?_
        refine r_bipush hx hb dX2_still_22 (by decide) ?_
        refine r_icmp_ge (tgt := 59) hx hb dX2_still_24 (by decide) (by omega) (by decide) (fun c5 => ?_) (fun c5 => ?_)
        · have ef : f = 10 := by omega
          subst ef
          refine lv_iload_n hx hb dX2_still_59 rfl (lv_at hl 2 rfl) ?_
          exact m_iret hC hQ hr hlk hM hS dX2_still_60 (⟨by unfold stillS; rw [if_pos (by omega), show stN _ 10 = (best, least) from eb.symm], ⟨_, _, _, rfl⟩, ⟨_, _, _, _, rfl⟩⟩)
        · have hgf := hgb f
          refine lv_aload_n hx hb dX2_still_27 rfl (lv_at hl 3 rfl) ?_
          refine lv_iload_n hx hb dX2_still_28 rfl (lv_at hl 4 rfl) ?_
          refine lv_iload hx hb dX2_still_29 (lv_at hl 0 rfl) ?_
          refine m_callv (kX2_tries (rest := []) (as := [.int (iI nn), .int (iI f)]) hC hml (met_tries l D E A h ad (va_up (va_up (va_up I 73 x) 66 a) 67 b) (setLot F 1 J G g g1) nn f (lotJ F 0) (lotG F 0) (by omega) (by omega) (isLot_other (isLot_of F 0) _ _ _ _) gsh0 i26 gh0 gl0 gm0 gs0 gt0 gr0) ⟨rfl, rfl⟩ hR (by decide) hM rfl hl.1 rfl (Nat.le_of_ble_eq_true rfl) dX2_still_31) hS (fun I7 F8 H locs hp9 hM hS => ?_)
          obtain ⟨⟨a1, b1, hI⟩, ⟨Gq, g2, g3, hF⟩⟩ := hp9
          have ecT : trN (va_up (va_up (va_up I 73 x) 66 a) 67 b) (setLot F 1 J G g g1) f nn.toNat (I 26) (lotJ F 0) (lotG F 0) (absI (F 28 0)) = trR I F f nn := trN_cg (I := va_up (va_up (va_up I 73 x) 66 a) 67 b) (F := setLot F 1 J G g g1) (I1 := I) (F1 := F) ⟨⟨rfl, rfl, rfl, rfl, rfl, rfl, rfl, rfl⟩, rfl, rfl, rfl, rfl, rfl, rfl, rfl, rfl, rfl, rfl, rfl, rfl, rfl, rfl, rfl, rfl, rfl, rfl, rfl, rfl⟩ f nn.toNat (I 26) (lotJ F 0) (lotG F 0) (absI (F 28 0))
          have hI : va_up (va_up (va_up (va_up (va_up (va_up I 73 x) 66 a) 67 b) 73 (trN (va_up (va_up (va_up I 73 x) 66 a) 67 b) (setLot F 1 J G g g1) f nn.toNat (I 26) (lotJ F 0) (lotG F 0) (absI (F 28 0))).2) 66 a1) 67 b1 = _ := hI
          have hF : setLot (setLot F 1 J G g g1) 1 (trN (va_up (va_up (va_up I 73 x) 66 a) 67 b) (setLot F 1 J G g g1) f nn.toNat (I 26) (lotJ F 0) (lotG F 0) (absI (F 28 0))).1 Gq g2 g3 = _ := hF
          rw [ecT, up73] at hI
          rw [ecT, setLot_setLot] at hF
          subst hI
          subst hF
          refine lv_aload_n hx hb dX2_still_34 rfl (lv_at hl 3 rfl) ?_
          refine mg_73 (v := (trR I F f nn).2) hC hM rfl dX2_still_35 ?_
          refine lv_iload_n hx hb dX2_still_38 rfl (lv_at hl 1 rfl) ?_
          refine r_icmp_lt (tgt := 45) hx hb dX2_still_39 (by decide) (by omega) (by omega) (fun c10 => ?_) (fun c10 => ?_)
          · refine lv_aload_n hx hb dX2_still_45 rfl (lv_at hl 3 rfl) ?_
            refine mg_73 (v := (trR I F f nn).2) hC hM rfl dX2_still_46 ?_
            refine lv_istore_n (lv' := [(3, .int (iI ((trR I F f nn).2))), (4, .int (iI f)), (2, .int (iI best)), (0, .ref h), (1, .int (iI nn))]) hx hb dX2_still_49 rfl hl (by decide) rfl (fun ls hl => ?_)
            refine lv_iload hx hb dX2_still_50 (lv_at hl 1 rfl) ?_
            refine lv_istore_n (lv' := [(2, .int (iI f)), (3, .int (iI ((trR I F f nn).2))), (4, .int (iI f)), (0, .ref h), (1, .int (iI nn))]) hx hb dX2_still_52 rfl hl (by decide) rfl (fun ls hl => ?_)
            refine lv_iinc (v := iI (f + 1)) (lv' := [(4, .int (iI (f + 1))), (2, .int (iI f)), (3, .int (iI ((trR I F f nn).2))), (0, .ref h), (1, .int (iI nn))]) hx hb dX2_still_53 hl (k := 2) rfl (iI_add _ _) (by decide) rfl (fun ls hl => ?_)
            refine lv_goto (tgt := 20) hx hb dX2_still_56 (by decide) ?_
            exact ih3 f ((trR I F f nn).2) (f + 1) (va_up (va_up (va_up I 73 ((trR I F f nn).2)) 66 a1) 67 b1) (setLot F 1 (trR I F f nn).1 Gq g2 g3) (by omega) (by omega) (by omega) (by omega) (by rw [stN_s _ hf0, ← eb]; exact (if_neg (show ¬ least ≤ (trR I F f nn).2 by omega)).symm) (⟨_, _, _, rfl⟩) (⟨_, _, _, _, rfl⟩) _ _ _ hM hS (lv_sub hl [0, 2, 1, 3, 4] rfl)
          · refine lv_goto (tgt := 53) hx hb dX2_still_42 (by decide) ?_
            refine lv_iinc (v := iI (f + 1)) (lv' := [(4, .int (iI (f + 1))), (3, .int (iI least)), (2, .int (iI best)), (0, .ref h), (1, .int (iI nn))]) hx hb dX2_still_53 hl (k := 0) rfl (iI_add _ _) (by decide) rfl (fun ls hl => ?_)
            refine lv_goto (tgt := 20) hx hb dX2_still_56 (by decide) ?_
            exact ih3 best least (f + 1) (va_up (va_up (va_up I 73 ((trR I F f nn).2)) 66 a1) 67 b1) (setLot F 1 (trR I F f nn).1 Gq g2 g3) (by omega) (by omega) (by omega) (by omega) (by rw [stN_s _ hf0, ← eb]; exact (if_pos (show least ≤ (trR I F f nn).2 by omega)).symm) (⟨_, _, _, rfl⟩) (⟨_, _, _, _, rfl⟩) _ _ _ hM hS (lv_sub hl [0, 1, 2, 3, 4] rfl)
    exact loop20_2 ((10 - 0 : Int).toNat + 1) 0 81 0 I F (by omega) (by omega) (by omega) (by omega) rfl (⟨I 73, I 66, I 67, by rw [up_self, up_self, up_self]⟩) (⟨lotJ F 1, lotG F 1, F 71, F 72, (setLot_self (isLot_of F 1)).symm⟩) _ _ _ hM hS (lv_sub hl [0, 1, 2, 3, 4] rfl)
  · refine r_iconst hx hb dX2_still_10 ?_
    exact m_iret hC hQ hr hlk hM hS dX2_still_11 (⟨if_neg (by omega), ⟨I 73, I 66, I 67, by rw [up_self, up_self, up_self]⟩, ⟨lotJ F 1, lotG F 1, F 71, F 72, setLot_self (isLot_of F 1)⟩⟩)
