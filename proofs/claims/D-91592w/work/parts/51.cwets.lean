/-! THE COMPONENT: what gets wet -/
set_option maxRecDepth 100000
theorem dX1_wets_0 : decode cX1_wets 0 = .ok (.aload_n 0, 1) := by decide +kernel
theorem dX1_wets_1 : decode cX1_wets 1 = .ok (.getfield 3, 3) := by decide +kernel
theorem dX1_wets_4 : decode cX1_wets 4 = .ok (.aload_n 0, 1) := by decide +kernel
theorem dX1_wets_5 : decode cX1_wets 5 = .ok (.getfield 35, 3) := by decide +kernel
theorem dX1_wets_8 : decode cX1_wets 8 = .ok (.invokevirtual 142, 3) := by decide +kernel
theorem dX1_wets_11 : decode cX1_wets 11 = .ok (.istore_n 1, 1) := by decide +kernel
theorem dX1_wets_12 : decode cX1_wets 12 = .ok (.iconst 0, 1) := by decide +kernel
theorem dX1_wets_13 : decode cX1_wets 13 = .ok (.istore_n 2, 1) := by decide +kernel
theorem dX1_wets_14 : decode cX1_wets 14 = .ok (.iload_n 2, 1) := by decide +kernel
theorem dX1_wets_15 : decode cX1_wets 15 = .ok (.aload_n 0, 1) := by decide +kernel
theorem dX1_wets_16 : decode cX1_wets 16 = .ok (.getfield 3, 3) := by decide +kernel
theorem dX1_wets_19 : decode cX1_wets 19 = .ok (.getfield 70, 3) := by decide +kernel
theorem dX1_wets_22 : decode cX1_wets 22 = .ok (.if_icmp .ge 82, 3) := by decide +kernel
theorem dX1_wets_25 : decode cX1_wets 25 = .ok (.iload_n 1, 1) := by decide +kernel
theorem dX1_wets_26 : decode cX1_wets 26 = .ok (.ldc 145, 2) := by decide +kernel
theorem dX1_wets_28 : decode cX1_wets 28 = .ok (.if_icmp .eq 38, 3) := by decide +kernel
theorem dX1_wets_31 : decode cX1_wets 31 = .ok (.bipush 100, 2) := by decide +kernel
theorem dX1_wets_33 : decode cX1_wets 33 = .ok (.aload_n 0, 1) := by decide +kernel
theorem dX1_wets_34 : decode cX1_wets 34 = .ok (.getfield 3, 3) := by decide +kernel
theorem dX1_wets_37 : decode cX1_wets 37 = .ok (.getfield 146, 3) := by decide +kernel
theorem dX1_wets_40 : decode cX1_wets 40 = .ok (.iload_n 2, 1) := by decide +kernel
theorem dX1_wets_41 : decode cX1_wets 41 = .ok (.iaload, 1) := by decide +kernel
theorem dX1_wets_42 : decode cX1_wets 42 = .ok (.imul, 1) := by decide +kernel
theorem dX1_wets_43 : decode cX1_wets 43 = .ok (.iload_n 1, 1) := by decide +kernel
theorem dX1_wets_44 : decode cX1_wets 44 = .ok (.aload_n 0, 1) := by decide +kernel
theorem dX1_wets_45 : decode cX1_wets 45 = .ok (.getfield 35, 3) := by decide +kernel
theorem dX1_wets_48 : decode cX1_wets 48 = .ok (.aload_n 0, 1) := by decide +kernel
theorem dX1_wets_49 : decode cX1_wets 49 = .ok (.getfield 3, 3) := by decide +kernel
theorem dX1_wets_52 : decode cX1_wets 52 = .ok (.getfield 149, 3) := by decide +kernel
theorem dX1_wets_55 : decode cX1_wets 55 = .ok (.iload_n 2, 1) := by decide +kernel
theorem dX1_wets_56 : decode cX1_wets 56 = .ok (.iaload, 1) := by decide +kernel
theorem dX1_wets_57 : decode cX1_wets 57 = .ok (.imul, 1) := by decide +kernel
theorem dX1_wets_58 : decode cX1_wets 58 = .ok (.iadd, 1) := by decide +kernel
theorem dX1_wets_59 : decode cX1_wets 59 = .ok (.if_icmp .gt 7, 3) := by decide +kernel
theorem dX1_wets_62 : decode cX1_wets 62 = .ok (.iconst 1, 1) := by decide +kernel
theorem dX1_wets_63 : decode cX1_wets 63 = .ok (.goto 4, 3) := by decide +kernel
theorem dX1_wets_66 : decode cX1_wets 66 = .ok (.iconst 0, 1) := by decide +kernel
theorem dX1_wets_67 : decode cX1_wets 67 = .ok (.istore_n 3, 1) := by decide +kernel
theorem dX1_wets_68 : decode cX1_wets 68 = .ok (.iload_n 3, 1) := by decide +kernel
theorem dX1_wets_69 : decode cX1_wets 69 = .ok (.ifCond .eq 22, 3) := by decide +kernel
theorem dX1_wets_72 : decode cX1_wets 72 = .ok (.aload_n 0, 1) := by decide +kernel
theorem dX1_wets_73 : decode cX1_wets 73 = .ok (.getfield 25, 3) := by decide +kernel
theorem dX1_wets_76 : decode cX1_wets 76 = .ok (.iload_n 2, 1) := by decide +kernel
theorem dX1_wets_77 : decode cX1_wets 77 = .ok (.baload, 1) := by decide +kernel
theorem dX1_wets_78 : decode cX1_wets 78 = .ok (.ifCond .ne 13, 3) := by decide +kernel
theorem dX1_wets_81 : decode cX1_wets 81 = .ok (.aload_n 0, 1) := by decide +kernel
theorem dX1_wets_82 : decode cX1_wets 82 = .ok (.getfield 22, 3) := by decide +kernel
theorem dX1_wets_85 : decode cX1_wets 85 = .ok (.iload_n 2, 1) := by decide +kernel
theorem dX1_wets_86 : decode cX1_wets 86 = .ok (.dup2, 1) := by decide +kernel
theorem dX1_wets_87 : decode cX1_wets 87 = .ok (.iaload, 1) := by decide +kernel
theorem dX1_wets_88 : decode cX1_wets 88 = .ok (.iconst 1, 1) := by decide +kernel
theorem dX1_wets_89 : decode cX1_wets 89 = .ok (.iadd, 1) := by decide +kernel
theorem dX1_wets_90 : decode cX1_wets 90 = .ok (.iastore, 1) := by decide +kernel
theorem dX1_wets_91 : decode cX1_wets 91 = .ok (.aload_n 0, 1) := by decide +kernel
theorem dX1_wets_92 : decode cX1_wets 92 = .ok (.getfield 25, 3) := by decide +kernel
theorem dX1_wets_95 : decode cX1_wets 95 = .ok (.iload_n 2, 1) := by decide +kernel
theorem dX1_wets_96 : decode cX1_wets 96 = .ok (.iload_n 3, 1) := by decide +kernel
theorem dX1_wets_97 : decode cX1_wets 97 = .ok (.bastore, 1) := by decide +kernel
theorem dX1_wets_98 : decode cX1_wets 98 = .ok (.iinc 2 1, 3) := by decide +kernel
theorem dX1_wets_101 : decode cX1_wets 101 = .ok (.goto (-87), 3) := by decide +kernel
theorem dX1_wets_104 : decode cX1_wets 104 = .ok (.return_, 1) := by decide +kernel
set_option maxHeartbeats 4000000 in
theorem cwets_19 (l : Launch) (adK adV st : Nat → Nat) (D : va_G) (E : Nat → ClassId) (A : Nat → Prop) (ad nv : Nat → Nat) (I : Nat → Int) (F : Nat → Int → Int) (S : Nat → Nat → Int) (Y : Nat → Int → Int) (L : Nat → Nat) (hn : cOK nv I L) (gh0 : gHull I F) (gl0 : gLoad I F) (gm0 : gMark I F) (b28 : -80 ≤ S 19 4 ∧ S 19 4 ≤ 80) (gw0 : Bd (Y 24) 6 0 1) : CM l yX1_wets cX1_wets 4 none (mrm 5) adK adV st D E A ad nv [.ref (ad 19)] I F S Y L (CQv D E A ad nv L (fun I1 F1 S1 Y1 => I = I1 ∧ F = F1 ∧ S = S1 ∧ va_up (va_up Y 23 (fedT (Y 23) 0 (fun m => if isWetS I F (S 19 4) m = 1 ∧ Y 24 m = 0 then Y 23 m + 1 else Y 23 m) (I 15))) 24 (fedT (Y 24) 0 (isWetS I F (S 19 4)) (I 15)) = Y1)) := by
  refine c_start (by decide) rfl (Nat.le_of_ble_eq_true rfl) ?_
  intro p e R s m args below meth c ls Q hR hQ hCK hml hr hlk hG hS hE hl
  have hx := hCK.1
  have hb := hCK.2.1
  have hown := hCK.2.2.1
  have hts := hCK.2.2.2.1
  have hK := hCK.2.2.2.2
  have hl : lv_has ls 4 [(0, .ref (ad 19))] := hl
  obtain ⟨i15, a16, a17⟩ := id gm0
  refine lv_aload_n hx hb dX1_wets_0 rfl (lv_at hl 0 rfl) ?_
  refine cg_X1_3 hCK hG (r := 19) (Or.inl rfl) dX1_wets_1 ?_
  refine lv_aload_n hx hb dX1_wets_4 rfl (lv_at hl 0 rfl) ?_
  refine cg_X1_35 (v := S 19 4) hCK hG (r := 19) (Or.inl rfl) rfl dX1_wets_5 ?_
  refine s_calli (j_runVN (n := 1) (C0 := RX0) (b := ad 0) (rest := []) (as := [.int (iI (S 19 4))]) hx hb hml hown hts hE (clevel l adK adV st D E A ad nv I F S Y L (S 19 4) (by omega) hn gh0 gl0) GB.blind (GB.at hK hG hE hS) (g_rec (r := 0) (ci := 0) hK hG (Or.inl (by decide)) rfl cC_0) q864 q749 qs18 q68 q750 (by decide +kernel) ⟨rfl, rfl⟩ hR (by decide) ⟨Nat.zero_le _, Nat.zero_le _⟩ rfl hl.1 rfl (Nat.le_of_ble_eq_true rfl) dX1_wets_8) ?_
  obtain ⟨lv, h_lv⟩ : ∃ x : Int, x = lvF (I 1) (F 2) (F 3) (heavyS (I 4) (F 9) (F 5) (I 10) (F 14)) (S 19 4) := ⟨_, rfl⟩
  refine W.eq (g2 := F0 m 11 ls [.int (iI lv)]) (by subst h_lv; rfl) ?_
  have hlo : lv = -2147483648 ∨ (-2000 ≤ lv ∧ lv ≤ 4000) := by rw [h_lv]; exact levelS_or _ _
  have etl : tLv I F (S 19 4) = lv := h_lv.symm
  refine lv_istore_n (lv' := [(1, .int (iI lv)), (0, .ref (ad 19))]) hx hb dX1_wets_11 rfl hl (by decide) rfl (fun ls hl => ?_)
  refine r_iconst hx hb dX1_wets_12 ?_
  refine lv_istore_n (lv' := [(2, .int (iI 0)), (1, .int (iI lv)), (0, .ref (ad 19))]) hx hb dX1_wets_13 rfl hl (by decide) rfl (fun ls hl => ?_)
  have loop14_1 : ∀ (n : Nat) (k : Int) (Y1 : Nat → Int → Int), I 15 - k < (n : Int) → 0 ≤ k → k ≤ I 15 → (Y1 = va_up (va_up Y 23 (fedT (Y 23) 0 (fun m => if isWetS I F (S 19 4) m = 1 ∧ Y 24 m = 0 then Y 23 m + 1 else Y 23 m) k)) 24 (fedT (Y 24) 0 (isWetS I F (S 19 4)) k)) → ∀ (H : Heap) (locs : List Loc) (ls : Array Slot), CW D E A ad nv I F S Y1 L H → va_S A s.heap H locs → lv_has ls 4 [(2, .int (iI k)), (1, .int (iI lv)), (0, .ref (ad 19))] → W p l e R s m args below meth c H locs 0 0 Q (F0 m 14 ls []) := by
    intro n
    induction n with
    | zero => intro k Y1 hn3 hk0 hk1 eY; exfalso; omega
    | succ n ih2 =>
      intro k Y1 hn3 hk0 hk1 eY H locs ls hG hS hl
      subst eY
      refine lv_iload_n hx hb dX1_wets_14 rfl (lv_at hl 0 rfl) ?_
      refine lv_aload_n hx hb dX1_wets_15 rfl (lv_at hl 2 rfl) ?_
      refine cg_X1_3 hCK hG (r := 19) (Or.inl rfl) dX1_wets_16 ?_
      refine cg_X1_70 (v := I 15) hCK hE hG rfl dX1_wets_19 ?_
      refine r_icmp_ge (tgt := 104) hx hb dX1_wets_22 (by decide) (by omega) (by omega) (fun c4 => ?_) (fun c4 => ?_)
      · have ek : k = I 15 := by omega
        exact c_vret hCK hQ hr hlk hG hS dX1_wets_104 (⟨rfl, rfl, rfl, by rw [ek]⟩)
      · have b16 := a16 k (by omega) (by omega)
        have b17 := a17 k (by omega) (by omega)
        have bw := gw0 k (by omega) (by omega)
        have hm := mul_bd (A := 80) (B := 19) (a := S 19 4) (b := F 16 k) (by omega) (by omega)
        refine lv_iload_n hx hb dX1_wets_25 rfl (lv_at hl 1 rfl) ?_
        refine r_ldc hx hb (-2147483648) hown (hts _ q865) (by decide) dX1_wets_26 ?_
        refine r_icmp_eq (tgt := 66) hx hb dX1_wets_28 (by decide) (by omega) (by decide) (fun c5 => ?_) (fun c5 => ?_)
        · have hz0 : isWetS I F (S 19 4) k = 0 := by unfold isWetS; rw [etl, if_neg (by omega)]
          refine r_iconst hx hb dX1_wets_66 ?_
          refine lv_istore_n (lv' := [(3, .int (iI 0)), (2, .int (iI k)), (1, .int (iI lv)), (0, .ref (ad 19))]) hx hb dX1_wets_67 rfl hl (by decide) rfl (fun ls hl => ?_)
          refine lv_iload_n hx hb dX1_wets_68 rfl (lv_at hl 0 rfl) ?_
          refine r_if_eq (tgt := 91) hx hb dX1_wets_69 (by decide) (by decide) (fun c6 => ?_) (fun c6 => absurd c6 (by decide))
          refine lv_aload_n hx hb dX1_wets_91 rfl (lv_at hl 3 rfl) ?_
          refine cg_X1_25 hCK hG (r := 19) (Or.inl rfl) dX1_wets_92 ?_
          refine W.eq (g2 := F0 m 95 ls [.ref (ad 24)]) rfl ?_
          refine lv_iload_n hx hb dX1_wets_95 rfl (lv_at hl 1 rfl) ?_
          refine lv_iload_n hx hb dX1_wets_96 rfl (lv_at hl 0 rfl) ?_
          refine cs_s3 (r := 19) (z := k) (v := 0) hCK hG hS (Or.inl rfl) (by omega) (by decide) dX1_wets_97 (fun H locs hG hS => ?_)
          have hG : CW D E A ad nv I F S (va_up (va_up Y 23 (fedT (Y 23) 0 (fun m => if isWetS I F (S 19 4) m = 1 ∧ Y 24 m = 0 then Y 23 m + 1 else Y 23 m) k)) 24 (updZ (fedT (Y 24) 0 (isWetS I F (S 19 4)) k) k 0)) L H := by
            have eY : va_up (va_up Y 23 (fedT (Y 23) 0 (fun m => if isWetS I F (S 19 4) m = 1 ∧ Y 24 m = 0 then Y 23 m + 1 else Y 23 m) k)) 24 (updZ (fedT (Y 24) 0 (isWetS I F (S 19 4)) k) k 0) = va_up (va_up (va_up Y 23 (fedT (Y 23) 0 (fun m => if isWetS I F (S 19 4) m = 1 ∧ Y 24 m = 0 then Y 23 m + 1 else Y 23 m) k)) 24 (fedT (Y 24) 0 (isWetS I F (S 19 4)) k)) 24 (updZ ((va_up (va_up Y 23 (fedT (Y 23) 0 (fun m => if isWetS I F (S 19 4) m = 1 ∧ Y 24 m = 0 then Y 23 m + 1 else Y 23 m) k)) 24 (fedT (Y 24) 0 (isWetS I F (S 19 4)) k)) 24) k 0) := by
              funext i
              by_cases h1 : i = 24
              · subst h1; simp [va_up]
              · simp [va_up, h1]
            rw [eY]; exact hG
          refine lv_iinc (v := iI (k + 1)) (lv' := [(2, .int (iI (k + 1))), (3, .int (iI 0)), (1, .int (iI lv)), (0, .ref (ad 19))]) hx hb dX1_wets_98 hl (k := 1) rfl (iI_add _ _) (by decide) rfl (fun ls hl => ?_)
          refine lv_goto (tgt := 14) hx hb dX1_wets_101 (by decide) ?_
          exact ih2 (k + 1) (va_up (va_up Y 23 (fedT (Y 23) 0 (fun m => if isWetS I F (S 19 4) m = 1 ∧ Y 24 m = 0 then Y 23 m + 1 else Y 23 m) k)) 24 (updZ (fedT (Y 24) 0 (isWetS I F (S 19 4)) k) k 0)) (by omega) (by omega) (by omega) (by rw [fed0_n (f := Y 23) (b := (fun m => if isWetS I F (S 19 4) m = 1 ∧ Y 24 m = 0 then Y 23 m + 1 else Y 23 m)) hk0 (if_neg (by omega)), fed0_s (f := Y 24) (b := (isWetS I F (S 19 4))) hk0 hz0]) _ _ _ hG hS (lv_sub hl [0, 2, 3] rfl)
        · refine r_bipush hx hb dX1_wets_31 (by decide) ?_
          refine lv_aload_n hx hb dX1_wets_33 rfl (lv_at hl 2 rfl) ?_
          refine cg_X1_3 hCK hG (r := 19) (Or.inl rfl) dX1_wets_34 ?_
          refine cg_X1_146 hCK hE hG dX1_wets_37 ?_
          refine lv_iload_n hx hb dX1_wets_40 rfl (lv_at hl 0 rfl) ?_
          refine cl_5 (v := F 17 k) hCK hG (by omega) rfl dX1_wets_41 ?_
          refine r_imul hx hb dX1_wets_42 ?_
          refine lv_iload_n hx hb dX1_wets_43 rfl (lv_at hl 1 rfl) ?_
          refine lv_aload_n hx hb dX1_wets_44 rfl (lv_at hl 2 rfl) ?_
          refine cg_X1_35 (v := S 19 4) hCK hG (r := 19) (Or.inl rfl) rfl dX1_wets_45 ?_
          refine lv_aload_n hx hb dX1_wets_48 rfl (lv_at hl 2 rfl) ?_
          refine cg_X1_3 hCK hG (r := 19) (Or.inl rfl) dX1_wets_49 ?_
          refine cg_X1_149 hCK hE hG dX1_wets_52 ?_
          refine lv_iload_n hx hb dX1_wets_55 rfl (lv_at hl 0 rfl) ?_
          refine cl_4 (v := F 16 k) hCK hG (by omega) rfl dX1_wets_56 ?_
          refine r_imul hx hb dX1_wets_57 ?_
          refine r_iadd hx hb dX1_wets_58 ?_
          refine r_icmp_gt (tgt := 66) hx hb dX1_wets_59 (by decide) (by omega) (by omega) (fun c7 => ?_) (fun c7 => ?_)
          · have hz0 : isWetS I F (S 19 4) k = 0 := by unfold isWetS; rw [etl, if_neg (by omega)]
            refine r_iconst hx hb dX1_wets_66 ?_
            refine lv_istore_n (lv' := [(3, .int (iI 0)), (2, .int (iI k)), (1, .int (iI lv)), (0, .ref (ad 19))]) hx hb dX1_wets_67 rfl hl (by decide) rfl (fun ls hl => ?_)
            refine lv_iload_n hx hb dX1_wets_68 rfl (lv_at hl 0 rfl) ?_
            refine r_if_eq (tgt := 91) hx hb dX1_wets_69 (by decide) (by decide) (fun c8 => ?_) (fun c8 => absurd c8 (by decide))
            refine lv_aload_n hx hb dX1_wets_91 rfl (lv_at hl 3 rfl) ?_
            refine cg_X1_25 hCK hG (r := 19) (Or.inl rfl) dX1_wets_92 ?_
            refine W.eq (g2 := F0 m 95 ls [.ref (ad 24)]) rfl ?_
            refine lv_iload_n hx hb dX1_wets_95 rfl (lv_at hl 1 rfl) ?_
            refine lv_iload_n hx hb dX1_wets_96 rfl (lv_at hl 0 rfl) ?_
            refine cs_s3 (r := 19) (z := k) (v := 0) hCK hG hS (Or.inl rfl) (by omega) (by decide) dX1_wets_97 (fun H locs hG hS => ?_)
            have hG : CW D E A ad nv I F S (va_up (va_up Y 23 (fedT (Y 23) 0 (fun m => if isWetS I F (S 19 4) m = 1 ∧ Y 24 m = 0 then Y 23 m + 1 else Y 23 m) k)) 24 (updZ (fedT (Y 24) 0 (isWetS I F (S 19 4)) k) k 0)) L H := by
              have eY : va_up (va_up Y 23 (fedT (Y 23) 0 (fun m => if isWetS I F (S 19 4) m = 1 ∧ Y 24 m = 0 then Y 23 m + 1 else Y 23 m) k)) 24 (updZ (fedT (Y 24) 0 (isWetS I F (S 19 4)) k) k 0) = va_up (va_up (va_up Y 23 (fedT (Y 23) 0 (fun m => if isWetS I F (S 19 4) m = 1 ∧ Y 24 m = 0 then Y 23 m + 1 else Y 23 m) k)) 24 (fedT (Y 24) 0 (isWetS I F (S 19 4)) k)) 24 (updZ ((va_up (va_up Y 23 (fedT (Y 23) 0 (fun m => if isWetS I F (S 19 4) m = 1 ∧ Y 24 m = 0 then Y 23 m + 1 else Y 23 m) k)) 24 (fedT (Y 24) 0 (isWetS I F (S 19 4)) k)) 24) k 0) := by
                funext i
                by_cases h1 : i = 24
                · subst h1; simp [va_up]
                · simp [va_up, h1]
              rw [eY]; exact hG
            refine lv_iinc (v := iI (k + 1)) (lv' := [(2, .int (iI (k + 1))), (3, .int (iI 0)), (1, .int (iI lv)), (0, .ref (ad 19))]) hx hb dX1_wets_98 hl (k := 1) rfl (iI_add _ _) (by decide) rfl (fun ls hl => ?_)
            refine lv_goto (tgt := 14) hx hb dX1_wets_101 (by decide) ?_
            exact ih2 (k + 1) (va_up (va_up Y 23 (fedT (Y 23) 0 (fun m => if isWetS I F (S 19 4) m = 1 ∧ Y 24 m = 0 then Y 23 m + 1 else Y 23 m) k)) 24 (updZ (fedT (Y 24) 0 (isWetS I F (S 19 4)) k) k 0)) (by omega) (by omega) (by omega) (by rw [fed0_n (f := Y 23) (b := (fun m => if isWetS I F (S 19 4) m = 1 ∧ Y 24 m = 0 then Y 23 m + 1 else Y 23 m)) hk0 (if_neg (by omega)), fed0_s (f := Y 24) (b := (isWetS I F (S 19 4))) hk0 hz0]) _ _ _ hG hS (lv_sub hl [0, 2, 3] rfl)
          · have hz1 : isWetS I F (S 19 4) k = 1 := by unfold isWetS; rw [etl, if_pos (by omega)]
            refine r_iconst hx hb dX1_wets_62 ?_
            refine lv_goto (tgt := 67) hx hb dX1_wets_63 (by decide) ?_
            refine lv_istore_n (lv' := [(3, .int (iI 1)), (2, .int (iI k)), (1, .int (iI lv)), (0, .ref (ad 19))]) hx hb dX1_wets_67 rfl hl (by decide) rfl (fun ls hl => ?_)
            refine lv_iload_n hx hb dX1_wets_68 rfl (lv_at hl 0 rfl) ?_
            refine r_if_eq (tgt := 91) hx hb dX1_wets_69 (by decide) (by decide) (fun c9 => absurd c9 (by decide)) (fun c9 => ?_)
            refine lv_aload_n hx hb dX1_wets_72 rfl (lv_at hl 3 rfl) ?_
            refine cg_X1_25 hCK hG (r := 19) (Or.inl rfl) dX1_wets_73 ?_
            refine W.eq (g2 := F0 m 76 ls [.ref (ad 24)]) rfl ?_
            refine lv_iload_n hx hb dX1_wets_76 rfl (lv_at hl 1 rfl) ?_
            refine cl_s3 (v := Y 24 k) (r := 19) hCK hG (Or.inl rfl) (by omega) fed0_at dX1_wets_77 ?_
            refine r_if_ne (tgt := 91) hx hb dX1_wets_78 (by decide) (by omega) (fun c10 => ?_) (fun c10 => ?_)
            · refine lv_aload_n hx hb dX1_wets_91 rfl (lv_at hl 3 rfl) ?_
              refine cg_X1_25 hCK hG (r := 19) (Or.inl rfl) dX1_wets_92 ?_
              refine W.eq (g2 := F0 m 95 ls [.ref (ad 24)]) rfl ?_
              refine lv_iload_n hx hb dX1_wets_95 rfl (lv_at hl 1 rfl) ?_
              refine lv_iload_n hx hb dX1_wets_96 rfl (lv_at hl 0 rfl) ?_
              refine cs_s3 (r := 19) (z := k) (v := 1) hCK hG hS (Or.inl rfl) (by omega) (by decide) dX1_wets_97 (fun H locs hG hS => ?_)
              have hG : CW D E A ad nv I F S (va_up (va_up Y 23 (fedT (Y 23) 0 (fun m => if isWetS I F (S 19 4) m = 1 ∧ Y 24 m = 0 then Y 23 m + 1 else Y 23 m) k)) 24 (updZ (fedT (Y 24) 0 (isWetS I F (S 19 4)) k) k 1)) L H := by
                have eY : va_up (va_up Y 23 (fedT (Y 23) 0 (fun m => if isWetS I F (S 19 4) m = 1 ∧ Y 24 m = 0 then Y 23 m + 1 else Y 23 m) k)) 24 (updZ (fedT (Y 24) 0 (isWetS I F (S 19 4)) k) k 1) = va_up (va_up (va_up Y 23 (fedT (Y 23) 0 (fun m => if isWetS I F (S 19 4) m = 1 ∧ Y 24 m = 0 then Y 23 m + 1 else Y 23 m) k)) 24 (fedT (Y 24) 0 (isWetS I F (S 19 4)) k)) 24 (updZ ((va_up (va_up Y 23 (fedT (Y 23) 0 (fun m => if isWetS I F (S 19 4) m = 1 ∧ Y 24 m = 0 then Y 23 m + 1 else Y 23 m) k)) 24 (fedT (Y 24) 0 (isWetS I F (S 19 4)) k)) 24) k 1) := by
                  funext i
                  by_cases h1 : i = 24
                  · subst h1; simp [va_up]
                  · simp [va_up, h1]
                rw [eY]; exact hG
              refine lv_iinc (v := iI (k + 1)) (lv' := [(2, .int (iI (k + 1))), (3, .int (iI 1)), (1, .int (iI lv)), (0, .ref (ad 19))]) hx hb dX1_wets_98 hl (k := 1) rfl (iI_add _ _) (by decide) rfl (fun ls hl => ?_)
              refine lv_goto (tgt := 14) hx hb dX1_wets_101 (by decide) ?_
              exact ih2 (k + 1) (va_up (va_up Y 23 (fedT (Y 23) 0 (fun m => if isWetS I F (S 19 4) m = 1 ∧ Y 24 m = 0 then Y 23 m + 1 else Y 23 m) k)) 24 (updZ (fedT (Y 24) 0 (isWetS I F (S 19 4)) k) k 1)) (by omega) (by omega) (by omega) (by rw [fed0_n (f := Y 23) (b := (fun m => if isWetS I F (S 19 4) m = 1 ∧ Y 24 m = 0 then Y 23 m + 1 else Y 23 m)) hk0 (if_neg (by omega)), fed0_s (f := Y 24) (b := (isWetS I F (S 19 4))) hk0 hz1]) _ _ _ hG hS (lv_sub hl [0, 2, 3] rfl)
            · refine lv_aload_n hx hb dX1_wets_81 rfl (lv_at hl 3 rfl) ?_
              refine cg_X1_22 hCK hG (r := 19) (Or.inl rfl) dX1_wets_82 ?_
              refine W.eq (g2 := F0 m 85 ls [.ref (ad 23)]) rfl ?_
              refine lv_iload_n hx hb dX1_wets_85 rfl (lv_at hl 1 rfl) ?_
              refine lv_dup2_11 hx hb dX1_wets_86 rfl rfl ?_
              refine cl_s2 (v := Y 23 k) (r := 19) hCK hG (Or.inl rfl) (by omega) (show fedT (Y 23) 0 (fun m => if isWetS I F (S 19 4) m = 1 ∧ Y 24 m = 0 then Y 23 m + 1 else Y 23 m) k k = _ from fed0_at) dX1_wets_87 ?_
              refine r_iconst hx hb dX1_wets_88 ?_
              refine r_iadd hx hb dX1_wets_89 ?_
              refine cs_s2 (r := 19) (z := k) (v := (Y 23 k) + 1) hCK hG hS (Or.inl rfl) (by omega) dX1_wets_90 (fun H locs hG hS => ?_)
              have hG : CW D E A ad nv I F S (va_up (va_up Y 24 (fedT (Y 24) 0 (isWetS I F (S 19 4)) k)) 23 (updZ (fedT (Y 23) 0 (fun m => if isWetS I F (S 19 4) m = 1 ∧ Y 24 m = 0 then Y 23 m + 1 else Y 23 m) k) k ((Y 23 k) + 1))) L H := by
                have eY : va_up (va_up Y 24 (fedT (Y 24) 0 (isWetS I F (S 19 4)) k)) 23 (updZ (fedT (Y 23) 0 (fun m => if isWetS I F (S 19 4) m = 1 ∧ Y 24 m = 0 then Y 23 m + 1 else Y 23 m) k) k ((Y 23 k) + 1)) = va_up (va_up (va_up Y 23 (fedT (Y 23) 0 (fun m => if isWetS I F (S 19 4) m = 1 ∧ Y 24 m = 0 then Y 23 m + 1 else Y 23 m) k)) 24 (fedT (Y 24) 0 (isWetS I F (S 19 4)) k)) 23 (updZ ((va_up (va_up Y 23 (fedT (Y 23) 0 (fun m => if isWetS I F (S 19 4) m = 1 ∧ Y 24 m = 0 then Y 23 m + 1 else Y 23 m) k)) 24 (fedT (Y 24) 0 (isWetS I F (S 19 4)) k)) 23) k ((Y 23 k) + 1)) := by
                  funext i
                  by_cases h1 : i = 23
                  · subst h1; simp [va_up]
                  · simp [va_up, h1]
                rw [eY]; exact hG
              refine lv_aload_n hx hb dX1_wets_91 rfl (lv_at hl 3 rfl) ?_
              refine cg_X1_25 hCK hG (r := 19) (Or.inl rfl) dX1_wets_92 ?_
              refine W.eq (g2 := F0 m 95 ls [.ref (ad 24)]) rfl ?_
              refine lv_iload_n hx hb dX1_wets_95 rfl (lv_at hl 1 rfl) ?_
              refine lv_iload_n hx hb dX1_wets_96 rfl (lv_at hl 0 rfl) ?_
              refine cs_s3 (r := 19) (z := k) (v := 1) hCK hG hS (Or.inl rfl) (by omega) (by decide) dX1_wets_97 (fun H locs hG hS => ?_)
              have hG : CW D E A ad nv I F S (va_up (va_up Y 23 (updZ (fedT (Y 23) 0 (fun m => if isWetS I F (S 19 4) m = 1 ∧ Y 24 m = 0 then Y 23 m + 1 else Y 23 m) k) k ((Y 23 k) + 1))) 24 (updZ (fedT (Y 24) 0 (isWetS I F (S 19 4)) k) k 1)) L H := by
                have eY : va_up (va_up Y 23 (updZ (fedT (Y 23) 0 (fun m => if isWetS I F (S 19 4) m = 1 ∧ Y 24 m = 0 then Y 23 m + 1 else Y 23 m) k) k ((Y 23 k) + 1))) 24 (updZ (fedT (Y 24) 0 (isWetS I F (S 19 4)) k) k 1) = va_up (va_up (va_up Y 24 (fedT (Y 24) 0 (isWetS I F (S 19 4)) k)) 23 (updZ (fedT (Y 23) 0 (fun m => if isWetS I F (S 19 4) m = 1 ∧ Y 24 m = 0 then Y 23 m + 1 else Y 23 m) k) k ((Y 23 k) + 1))) 24 (updZ ((va_up (va_up Y 24 (fedT (Y 24) 0 (isWetS I F (S 19 4)) k)) 23 (updZ (fedT (Y 23) 0 (fun m => if isWetS I F (S 19 4) m = 1 ∧ Y 24 m = 0 then Y 23 m + 1 else Y 23 m) k) k ((Y 23 k) + 1))) 24) k 1) := by
                  funext i
                  by_cases h1 : i = 24
                  · subst h1; simp [va_up]
                  · simp [va_up, h1]
                rw [eY]; exact hG
              refine lv_iinc (v := iI (k + 1)) (lv' := [(2, .int (iI (k + 1))), (3, .int (iI 1)), (1, .int (iI lv)), (0, .ref (ad 19))]) hx hb dX1_wets_98 hl (k := 1) rfl (iI_add _ _) (by decide) rfl (fun ls hl => ?_)
              refine lv_goto (tgt := 14) hx hb dX1_wets_101 (by decide) ?_
              exact ih2 (k + 1) (va_up (va_up Y 23 (updZ (fedT (Y 23) 0 (fun m => if isWetS I F (S 19 4) m = 1 ∧ Y 24 m = 0 then Y 23 m + 1 else Y 23 m) k) k ((Y 23 k) + 1))) 24 (updZ (fedT (Y 24) 0 (isWetS I F (S 19 4)) k) k 1)) (by omega) (by omega) (by omega) (by rw [fed0_s (f := Y 23) (b := (fun m => if isWetS I F (S 19 4) m = 1 ∧ Y 24 m = 0 then Y 23 m + 1 else Y 23 m)) hk0 (if_pos (by omega)), fed0_s (f := Y 24) (b := (isWetS I F (S 19 4))) hk0 hz1]) _ _ _ hG hS (lv_sub hl [0, 2, 3] rfl)
  exact loop14_1 ((I 15 - 0 : Int).toNat + 1) 0 Y (by omega) (by omega) (by omega) (by rw [fedT_0, fedT_0, up_self, up_self]) _ _ _ hG hS (lv_sub hl [0, 1, 2] rfl)
set_option maxHeartbeats 4000000 in
theorem cwets_20 (l : Launch) (adK adV st : Nat → Nat) (D : va_G) (E : Nat → ClassId) (A : Nat → Prop) (ad nv : Nat → Nat) (I : Nat → Int) (F : Nat → Int → Int) (S : Nat → Nat → Int) (Y : Nat → Int → Int) (L : Nat → Nat) (hn : cOK nv I L) (gh0 : gHull I F) (gl0 : gLoad I F) (gm0 : gMark I F) (b28 : -80 ≤ S 20 4 ∧ S 20 4 ≤ 80) (gw0 : Bd (Y 28) 6 0 1) : CM l yX1_wets cX1_wets 4 none (mrm 5) adK adV st D E A ad nv [.ref (ad 20)] I F S Y L (CQv D E A ad nv L (fun I1 F1 S1 Y1 => I = I1 ∧ F = F1 ∧ S = S1 ∧ va_up (va_up Y 27 (fedT (Y 27) 0 (fun m => if isWetS I F (S 20 4) m = 1 ∧ Y 28 m = 0 then Y 27 m + 1 else Y 27 m) (I 15))) 28 (fedT (Y 28) 0 (isWetS I F (S 20 4)) (I 15)) = Y1)) := by
  refine c_start (by decide) rfl (Nat.le_of_ble_eq_true rfl) ?_
  intro p e R s m args below meth c ls Q hR hQ hCK hml hr hlk hG hS hE hl
  have hx := hCK.1
  have hb := hCK.2.1
  have hown := hCK.2.2.1
  have hts := hCK.2.2.2.1
  have hK := hCK.2.2.2.2
  have hl : lv_has ls 4 [(0, .ref (ad 20))] := hl
  obtain ⟨i15, a16, a17⟩ := id gm0
  refine lv_aload_n hx hb dX1_wets_0 rfl (lv_at hl 0 rfl) ?_
  refine cg_X1_3 hCK hG (r := 20) (Or.inr rfl) dX1_wets_1 ?_
  refine lv_aload_n hx hb dX1_wets_4 rfl (lv_at hl 0 rfl) ?_
  refine cg_X1_35 (v := S 20 4) hCK hG (r := 20) (Or.inr rfl) rfl dX1_wets_5 ?_
  refine s_calli (j_runVN (n := 1) (C0 := RX0) (b := ad 0) (rest := []) (as := [.int (iI (S 20 4))]) hx hb hml hown hts hE (clevel l adK adV st D E A ad nv I F S Y L (S 20 4) (by omega) hn gh0 gl0) GB.blind (GB.at hK hG hE hS) (g_rec (r := 0) (ci := 0) hK hG (Or.inl (by decide)) rfl cC_0) q864 q749 qs18 q68 q750 (by decide +kernel) ⟨rfl, rfl⟩ hR (by decide) ⟨Nat.zero_le _, Nat.zero_le _⟩ rfl hl.1 rfl (Nat.le_of_ble_eq_true rfl) dX1_wets_8) ?_
  obtain ⟨lv, h_lv⟩ : ∃ x : Int, x = lvF (I 1) (F 2) (F 3) (heavyS (I 4) (F 9) (F 5) (I 10) (F 14)) (S 20 4) := ⟨_, rfl⟩
  refine W.eq (g2 := F0 m 11 ls [.int (iI lv)]) (by subst h_lv; rfl) ?_
  have hlo : lv = -2147483648 ∨ (-2000 ≤ lv ∧ lv ≤ 4000) := by rw [h_lv]; exact levelS_or _ _
  have etl : tLv I F (S 20 4) = lv := h_lv.symm
  refine lv_istore_n (lv' := [(1, .int (iI lv)), (0, .ref (ad 20))]) hx hb dX1_wets_11 rfl hl (by decide) rfl (fun ls hl => ?_)
  refine r_iconst hx hb dX1_wets_12 ?_
  refine lv_istore_n (lv' := [(2, .int (iI 0)), (1, .int (iI lv)), (0, .ref (ad 20))]) hx hb dX1_wets_13 rfl hl (by decide) rfl (fun ls hl => ?_)
  have loop14_1 : ∀ (n : Nat) (k : Int) (Y1 : Nat → Int → Int), I 15 - k < (n : Int) → 0 ≤ k → k ≤ I 15 → (Y1 = va_up (va_up Y 27 (fedT (Y 27) 0 (fun m => if isWetS I F (S 20 4) m = 1 ∧ Y 28 m = 0 then Y 27 m + 1 else Y 27 m) k)) 28 (fedT (Y 28) 0 (isWetS I F (S 20 4)) k)) → ∀ (H : Heap) (locs : List Loc) (ls : Array Slot), CW D E A ad nv I F S Y1 L H → va_S A s.heap H locs → lv_has ls 4 [(2, .int (iI k)), (1, .int (iI lv)), (0, .ref (ad 20))] → W p l e R s m args below meth c H locs 0 0 Q (F0 m 14 ls []) := by
    intro n
    induction n with
    | zero => intro k Y1 hn3 hk0 hk1 eY; exfalso; omega
    | succ n ih2 =>
      intro k Y1 hn3 hk0 hk1 eY H locs ls hG hS hl
      subst eY
      refine lv_iload_n hx hb dX1_wets_14 rfl (lv_at hl 0 rfl) ?_
      refine lv_aload_n hx hb dX1_wets_15 rfl (lv_at hl 2 rfl) ?_
      refine cg_X1_3 hCK hG (r := 20) (Or.inr rfl) dX1_wets_16 ?_
      refine cg_X1_70 (v := I 15) hCK hE hG rfl dX1_wets_19 ?_
      refine r_icmp_ge (tgt := 104) hx hb dX1_wets_22 (by decide) (by omega) (by omega) (fun c4 => ?_) (fun c4 => ?_)
      · have ek : k = I 15 := by omega
        exact c_vret hCK hQ hr hlk hG hS dX1_wets_104 (⟨rfl, rfl, rfl, by rw [ek]⟩)
      · have b16 := a16 k (by omega) (by omega)
        have b17 := a17 k (by omega) (by omega)
        have bw := gw0 k (by omega) (by omega)
        have hm := mul_bd (A := 80) (B := 19) (a := S 20 4) (b := F 16 k) (by omega) (by omega)
        refine lv_iload_n hx hb dX1_wets_25 rfl (lv_at hl 1 rfl) ?_
        refine r_ldc hx hb (-2147483648) hown (hts _ q865) (by decide) dX1_wets_26 ?_
        refine r_icmp_eq (tgt := 66) hx hb dX1_wets_28 (by decide) (by omega) (by decide) (fun c5 => ?_) (fun c5 => ?_)
        · have hz0 : isWetS I F (S 20 4) k = 0 := by unfold isWetS; rw [etl, if_neg (by omega)]
          refine r_iconst hx hb dX1_wets_66 ?_
          refine lv_istore_n (lv' := [(3, .int (iI 0)), (2, .int (iI k)), (1, .int (iI lv)), (0, .ref (ad 20))]) hx hb dX1_wets_67 rfl hl (by decide) rfl (fun ls hl => ?_)
          refine lv_iload_n hx hb dX1_wets_68 rfl (lv_at hl 0 rfl) ?_
          refine r_if_eq (tgt := 91) hx hb dX1_wets_69 (by decide) (by decide) (fun c6 => ?_) (fun c6 => absurd c6 (by decide))
          refine lv_aload_n hx hb dX1_wets_91 rfl (lv_at hl 3 rfl) ?_
          refine cg_X1_25 hCK hG (r := 20) (Or.inr rfl) dX1_wets_92 ?_
          refine W.eq (g2 := F0 m 95 ls [.ref (ad 28)]) rfl ?_
          refine lv_iload_n hx hb dX1_wets_95 rfl (lv_at hl 1 rfl) ?_
          refine lv_iload_n hx hb dX1_wets_96 rfl (lv_at hl 0 rfl) ?_
          refine cs_s3 (r := 20) (z := k) (v := 0) hCK hG hS (Or.inr rfl) (by omega) (by decide) dX1_wets_97 (fun H locs hG hS => ?_)
          have hG : CW D E A ad nv I F S (va_up (va_up Y 27 (fedT (Y 27) 0 (fun m => if isWetS I F (S 20 4) m = 1 ∧ Y 28 m = 0 then Y 27 m + 1 else Y 27 m) k)) 28 (updZ (fedT (Y 28) 0 (isWetS I F (S 20 4)) k) k 0)) L H := by
            have eY : va_up (va_up Y 27 (fedT (Y 27) 0 (fun m => if isWetS I F (S 20 4) m = 1 ∧ Y 28 m = 0 then Y 27 m + 1 else Y 27 m) k)) 28 (updZ (fedT (Y 28) 0 (isWetS I F (S 20 4)) k) k 0) = va_up (va_up (va_up Y 27 (fedT (Y 27) 0 (fun m => if isWetS I F (S 20 4) m = 1 ∧ Y 28 m = 0 then Y 27 m + 1 else Y 27 m) k)) 28 (fedT (Y 28) 0 (isWetS I F (S 20 4)) k)) 28 (updZ ((va_up (va_up Y 27 (fedT (Y 27) 0 (fun m => if isWetS I F (S 20 4) m = 1 ∧ Y 28 m = 0 then Y 27 m + 1 else Y 27 m) k)) 28 (fedT (Y 28) 0 (isWetS I F (S 20 4)) k)) 28) k 0) := by
              funext i
              by_cases h1 : i = 28
              · subst h1; simp [va_up]
              · simp [va_up, h1]
            rw [eY]; exact hG
          refine lv_iinc (v := iI (k + 1)) (lv' := [(2, .int (iI (k + 1))), (3, .int (iI 0)), (1, .int (iI lv)), (0, .ref (ad 20))]) hx hb dX1_wets_98 hl (k := 1) rfl (iI_add _ _) (by decide) rfl (fun ls hl => ?_)
          refine lv_goto (tgt := 14) hx hb dX1_wets_101 (by decide) ?_
          exact ih2 (k + 1) (va_up (va_up Y 27 (fedT (Y 27) 0 (fun m => if isWetS I F (S 20 4) m = 1 ∧ Y 28 m = 0 then Y 27 m + 1 else Y 27 m) k)) 28 (updZ (fedT (Y 28) 0 (isWetS I F (S 20 4)) k) k 0)) (by omega) (by omega) (by omega) (by rw [fed0_n (f := Y 27) (b := (fun m => if isWetS I F (S 20 4) m = 1 ∧ Y 28 m = 0 then Y 27 m + 1 else Y 27 m)) hk0 (if_neg (by omega)), fed0_s (f := Y 28) (b := (isWetS I F (S 20 4))) hk0 hz0]) _ _ _ hG hS (lv_sub hl [0, 2, 3] rfl)
        · refine r_bipush hx hb dX1_wets_31 (by decide) ?_
          refine lv_aload_n hx hb dX1_wets_33 rfl (lv_at hl 2 rfl) ?_
          refine cg_X1_3 hCK hG (r := 20) (Or.inr rfl) dX1_wets_34 ?_
          refine cg_X1_146 hCK hE hG dX1_wets_37 ?_
          refine lv_iload_n hx hb dX1_wets_40 rfl (lv_at hl 0 rfl) ?_
          refine cl_5 (v := F 17 k) hCK hG (by omega) rfl dX1_wets_41 ?_
          refine r_imul hx hb dX1_wets_42 ?_
          refine lv_iload_n hx hb dX1_wets_43 rfl (lv_at hl 1 rfl) ?_
          refine lv_aload_n hx hb dX1_wets_44 rfl (lv_at hl 2 rfl) ?_
          refine cg_X1_35 (v := S 20 4) hCK hG (r := 20) (Or.inr rfl) rfl dX1_wets_45 ?_
          refine lv_aload_n hx hb dX1_wets_48 rfl (lv_at hl 2 rfl) ?_
          refine cg_X1_3 hCK hG (r := 20) (Or.inr rfl) dX1_wets_49 ?_
          refine cg_X1_149 hCK hE hG dX1_wets_52 ?_
          refine lv_iload_n hx hb dX1_wets_55 rfl (lv_at hl 0 rfl) ?_
          refine cl_4 (v := F 16 k) hCK hG (by omega) rfl dX1_wets_56 ?_
          refine r_imul hx hb dX1_wets_57 ?_
          refine r_iadd hx hb dX1_wets_58 ?_
          refine r_icmp_gt (tgt := 66) hx hb dX1_wets_59 (by decide) (by omega) (by omega) (fun c7 => ?_) (fun c7 => ?_)
          · have hz0 : isWetS I F (S 20 4) k = 0 := by unfold isWetS; rw [etl, if_neg (by omega)]
            refine r_iconst hx hb dX1_wets_66 ?_
            refine lv_istore_n (lv' := [(3, .int (iI 0)), (2, .int (iI k)), (1, .int (iI lv)), (0, .ref (ad 20))]) hx hb dX1_wets_67 rfl hl (by decide) rfl (fun ls hl => ?_)
            refine lv_iload_n hx hb dX1_wets_68 rfl (lv_at hl 0 rfl) ?_
            refine r_if_eq (tgt := 91) hx hb dX1_wets_69 (by decide) (by decide) (fun c8 => ?_) (fun c8 => absurd c8 (by decide))
            refine lv_aload_n hx hb dX1_wets_91 rfl (lv_at hl 3 rfl) ?_
            refine cg_X1_25 hCK hG (r := 20) (Or.inr rfl) dX1_wets_92 ?_
            refine W.eq (g2 := F0 m 95 ls [.ref (ad 28)]) rfl ?_
            refine lv_iload_n hx hb dX1_wets_95 rfl (lv_at hl 1 rfl) ?_
            refine lv_iload_n hx hb dX1_wets_96 rfl (lv_at hl 0 rfl) ?_
            refine cs_s3 (r := 20) (z := k) (v := 0) hCK hG hS (Or.inr rfl) (by omega) (by decide) dX1_wets_97 (fun H locs hG hS => ?_)
            have hG : CW D E A ad nv I F S (va_up (va_up Y 27 (fedT (Y 27) 0 (fun m => if isWetS I F (S 20 4) m = 1 ∧ Y 28 m = 0 then Y 27 m + 1 else Y 27 m) k)) 28 (updZ (fedT (Y 28) 0 (isWetS I F (S 20 4)) k) k 0)) L H := by
              have eY : va_up (va_up Y 27 (fedT (Y 27) 0 (fun m => if isWetS I F (S 20 4) m = 1 ∧ Y 28 m = 0 then Y 27 m + 1 else Y 27 m) k)) 28 (updZ (fedT (Y 28) 0 (isWetS I F (S 20 4)) k) k 0) = va_up (va_up (va_up Y 27 (fedT (Y 27) 0 (fun m => if isWetS I F (S 20 4) m = 1 ∧ Y 28 m = 0 then Y 27 m + 1 else Y 27 m) k)) 28 (fedT (Y 28) 0 (isWetS I F (S 20 4)) k)) 28 (updZ ((va_up (va_up Y 27 (fedT (Y 27) 0 (fun m => if isWetS I F (S 20 4) m = 1 ∧ Y 28 m = 0 then Y 27 m + 1 else Y 27 m) k)) 28 (fedT (Y 28) 0 (isWetS I F (S 20 4)) k)) 28) k 0) := by
                funext i
                by_cases h1 : i = 28
                · subst h1; simp [va_up]
                · simp [va_up, h1]
              rw [eY]; exact hG
            refine lv_iinc (v := iI (k + 1)) (lv' := [(2, .int (iI (k + 1))), (3, .int (iI 0)), (1, .int (iI lv)), (0, .ref (ad 20))]) hx hb dX1_wets_98 hl (k := 1) rfl (iI_add _ _) (by decide) rfl (fun ls hl => ?_)
            refine lv_goto (tgt := 14) hx hb dX1_wets_101 (by decide) ?_
            exact ih2 (k + 1) (va_up (va_up Y 27 (fedT (Y 27) 0 (fun m => if isWetS I F (S 20 4) m = 1 ∧ Y 28 m = 0 then Y 27 m + 1 else Y 27 m) k)) 28 (updZ (fedT (Y 28) 0 (isWetS I F (S 20 4)) k) k 0)) (by omega) (by omega) (by omega) (by rw [fed0_n (f := Y 27) (b := (fun m => if isWetS I F (S 20 4) m = 1 ∧ Y 28 m = 0 then Y 27 m + 1 else Y 27 m)) hk0 (if_neg (by omega)), fed0_s (f := Y 28) (b := (isWetS I F (S 20 4))) hk0 hz0]) _ _ _ hG hS (lv_sub hl [0, 2, 3] rfl)
          · have hz1 : isWetS I F (S 20 4) k = 1 := by unfold isWetS; rw [etl, if_pos (by omega)]
            refine r_iconst hx hb dX1_wets_62 ?_
            refine lv_goto (tgt := 67) hx hb dX1_wets_63 (by decide) ?_
            refine lv_istore_n (lv' := [(3, .int (iI 1)), (2, .int (iI k)), (1, .int (iI lv)), (0, .ref (ad 20))]) hx hb dX1_wets_67 rfl hl (by decide) rfl (fun ls hl => ?_)
            refine lv_iload_n hx hb dX1_wets_68 rfl (lv_at hl 0 rfl) ?_
            refine r_if_eq (tgt := 91) hx hb dX1_wets_69 (by decide) (by decide) (fun c9 => absurd c9 (by decide)) (fun c9 => ?_)
            refine lv_aload_n hx hb dX1_wets_72 rfl (lv_at hl 3 rfl) ?_
            refine cg_X1_25 hCK hG (r := 20) (Or.inr rfl) dX1_wets_73 ?_
            refine W.eq (g2 := F0 m 76 ls [.ref (ad 28)]) rfl ?_
            refine lv_iload_n hx hb dX1_wets_76 rfl (lv_at hl 1 rfl) ?_
            refine cl_s3 (v := Y 28 k) (r := 20) hCK hG (Or.inr rfl) (by omega) fed0_at dX1_wets_77 ?_
            refine r_if_ne (tgt := 91) hx hb dX1_wets_78 (by decide) (by omega) (fun c10 => ?_) (fun c10 => ?_)
            · refine lv_aload_n hx hb dX1_wets_91 rfl (lv_at hl 3 rfl) ?_
              refine cg_X1_25 hCK hG (r := 20) (Or.inr rfl) dX1_wets_92 ?_
              refine W.eq (g2 := F0 m 95 ls [.ref (ad 28)]) rfl ?_
              refine lv_iload_n hx hb dX1_wets_95 rfl (lv_at hl 1 rfl) ?_
              refine lv_iload_n hx hb dX1_wets_96 rfl (lv_at hl 0 rfl) ?_
              refine cs_s3 (r := 20) (z := k) (v := 1) hCK hG hS (Or.inr rfl) (by omega) (by decide) dX1_wets_97 (fun H locs hG hS => ?_)
              have hG : CW D E A ad nv I F S (va_up (va_up Y 27 (fedT (Y 27) 0 (fun m => if isWetS I F (S 20 4) m = 1 ∧ Y 28 m = 0 then Y 27 m + 1 else Y 27 m) k)) 28 (updZ (fedT (Y 28) 0 (isWetS I F (S 20 4)) k) k 1)) L H := by
                have eY : va_up (va_up Y 27 (fedT (Y 27) 0 (fun m => if isWetS I F (S 20 4) m = 1 ∧ Y 28 m = 0 then Y 27 m + 1 else Y 27 m) k)) 28 (updZ (fedT (Y 28) 0 (isWetS I F (S 20 4)) k) k 1) = va_up (va_up (va_up Y 27 (fedT (Y 27) 0 (fun m => if isWetS I F (S 20 4) m = 1 ∧ Y 28 m = 0 then Y 27 m + 1 else Y 27 m) k)) 28 (fedT (Y 28) 0 (isWetS I F (S 20 4)) k)) 28 (updZ ((va_up (va_up Y 27 (fedT (Y 27) 0 (fun m => if isWetS I F (S 20 4) m = 1 ∧ Y 28 m = 0 then Y 27 m + 1 else Y 27 m) k)) 28 (fedT (Y 28) 0 (isWetS I F (S 20 4)) k)) 28) k 1) := by
                  funext i
                  by_cases h1 : i = 28
                  · subst h1; simp [va_up]
                  · simp [va_up, h1]
                rw [eY]; exact hG
              refine lv_iinc (v := iI (k + 1)) (lv' := [(2, .int (iI (k + 1))), (3, .int (iI 1)), (1, .int (iI lv)), (0, .ref (ad 20))]) hx hb dX1_wets_98 hl (k := 1) rfl (iI_add _ _) (by decide) rfl (fun ls hl => ?_)
              refine lv_goto (tgt := 14) hx hb dX1_wets_101 (by decide) ?_
              exact ih2 (k + 1) (va_up (va_up Y 27 (fedT (Y 27) 0 (fun m => if isWetS I F (S 20 4) m = 1 ∧ Y 28 m = 0 then Y 27 m + 1 else Y 27 m) k)) 28 (updZ (fedT (Y 28) 0 (isWetS I F (S 20 4)) k) k 1)) (by omega) (by omega) (by omega) (by rw [fed0_n (f := Y 27) (b := (fun m => if isWetS I F (S 20 4) m = 1 ∧ Y 28 m = 0 then Y 27 m + 1 else Y 27 m)) hk0 (if_neg (by omega)), fed0_s (f := Y 28) (b := (isWetS I F (S 20 4))) hk0 hz1]) _ _ _ hG hS (lv_sub hl [0, 2, 3] rfl)
            · refine lv_aload_n hx hb dX1_wets_81 rfl (lv_at hl 3 rfl) ?_
              refine cg_X1_22 hCK hG (r := 20) (Or.inr rfl) dX1_wets_82 ?_
              refine W.eq (g2 := F0 m 85 ls [.ref (ad 27)]) rfl ?_
              refine lv_iload_n hx hb dX1_wets_85 rfl (lv_at hl 1 rfl) ?_
              refine lv_dup2_11 hx hb dX1_wets_86 rfl rfl ?_
              refine cl_s2 (v := Y 27 k) (r := 20) hCK hG (Or.inr rfl) (by omega) (show fedT (Y 27) 0 (fun m => if isWetS I F (S 20 4) m = 1 ∧ Y 28 m = 0 then Y 27 m + 1 else Y 27 m) k k = _ from fed0_at) dX1_wets_87 ?_
              refine r_iconst hx hb dX1_wets_88 ?_
              refine r_iadd hx hb dX1_wets_89 ?_
              refine cs_s2 (r := 20) (z := k) (v := (Y 27 k) + 1) hCK hG hS (Or.inr rfl) (by omega) dX1_wets_90 (fun H locs hG hS => ?_)
              have hG : CW D E A ad nv I F S (va_up (va_up Y 28 (fedT (Y 28) 0 (isWetS I F (S 20 4)) k)) 27 (updZ (fedT (Y 27) 0 (fun m => if isWetS I F (S 20 4) m = 1 ∧ Y 28 m = 0 then Y 27 m + 1 else Y 27 m) k) k ((Y 27 k) + 1))) L H := by
                have eY : va_up (va_up Y 28 (fedT (Y 28) 0 (isWetS I F (S 20 4)) k)) 27 (updZ (fedT (Y 27) 0 (fun m => if isWetS I F (S 20 4) m = 1 ∧ Y 28 m = 0 then Y 27 m + 1 else Y 27 m) k) k ((Y 27 k) + 1)) = va_up (va_up (va_up Y 27 (fedT (Y 27) 0 (fun m => if isWetS I F (S 20 4) m = 1 ∧ Y 28 m = 0 then Y 27 m + 1 else Y 27 m) k)) 28 (fedT (Y 28) 0 (isWetS I F (S 20 4)) k)) 27 (updZ ((va_up (va_up Y 27 (fedT (Y 27) 0 (fun m => if isWetS I F (S 20 4) m = 1 ∧ Y 28 m = 0 then Y 27 m + 1 else Y 27 m) k)) 28 (fedT (Y 28) 0 (isWetS I F (S 20 4)) k)) 27) k ((Y 27 k) + 1)) := by
                  funext i
                  by_cases h1 : i = 27
                  · subst h1; simp [va_up]
                  · simp [va_up, h1]
                rw [eY]; exact hG
              refine lv_aload_n hx hb dX1_wets_91 rfl (lv_at hl 3 rfl) ?_
              refine cg_X1_25 hCK hG (r := 20) (Or.inr rfl) dX1_wets_92 ?_
              refine W.eq (g2 := F0 m 95 ls [.ref (ad 28)]) rfl ?_
              refine lv_iload_n hx hb dX1_wets_95 rfl (lv_at hl 1 rfl) ?_
              refine lv_iload_n hx hb dX1_wets_96 rfl (lv_at hl 0 rfl) ?_
              refine cs_s3 (r := 20) (z := k) (v := 1) hCK hG hS (Or.inr rfl) (by omega) (by decide) dX1_wets_97 (fun H locs hG hS => ?_)
              have hG : CW D E A ad nv I F S (va_up (va_up Y 27 (updZ (fedT (Y 27) 0 (fun m => if isWetS I F (S 20 4) m = 1 ∧ Y 28 m = 0 then Y 27 m + 1 else Y 27 m) k) k ((Y 27 k) + 1))) 28 (updZ (fedT (Y 28) 0 (isWetS I F (S 20 4)) k) k 1)) L H := by
                have eY : va_up (va_up Y 27 (updZ (fedT (Y 27) 0 (fun m => if isWetS I F (S 20 4) m = 1 ∧ Y 28 m = 0 then Y 27 m + 1 else Y 27 m) k) k ((Y 27 k) + 1))) 28 (updZ (fedT (Y 28) 0 (isWetS I F (S 20 4)) k) k 1) = va_up (va_up (va_up Y 28 (fedT (Y 28) 0 (isWetS I F (S 20 4)) k)) 27 (updZ (fedT (Y 27) 0 (fun m => if isWetS I F (S 20 4) m = 1 ∧ Y 28 m = 0 then Y 27 m + 1 else Y 27 m) k) k ((Y 27 k) + 1))) 28 (updZ ((va_up (va_up Y 28 (fedT (Y 28) 0 (isWetS I F (S 20 4)) k)) 27 (updZ (fedT (Y 27) 0 (fun m => if isWetS I F (S 20 4) m = 1 ∧ Y 28 m = 0 then Y 27 m + 1 else Y 27 m) k) k ((Y 27 k) + 1))) 28) k 1) := by
                  funext i
                  by_cases h1 : i = 28
                  · subst h1; simp [va_up]
                  · simp [va_up, h1]
                rw [eY]; exact hG
              refine lv_iinc (v := iI (k + 1)) (lv' := [(2, .int (iI (k + 1))), (3, .int (iI 1)), (1, .int (iI lv)), (0, .ref (ad 20))]) hx hb dX1_wets_98 hl (k := 1) rfl (iI_add _ _) (by decide) rfl (fun ls hl => ?_)
              refine lv_goto (tgt := 14) hx hb dX1_wets_101 (by decide) ?_
              exact ih2 (k + 1) (va_up (va_up Y 27 (updZ (fedT (Y 27) 0 (fun m => if isWetS I F (S 20 4) m = 1 ∧ Y 28 m = 0 then Y 27 m + 1 else Y 27 m) k) k ((Y 27 k) + 1))) 28 (updZ (fedT (Y 28) 0 (isWetS I F (S 20 4)) k) k 1)) (by omega) (by omega) (by omega) (by rw [fed0_s (f := Y 27) (b := (fun m => if isWetS I F (S 20 4) m = 1 ∧ Y 28 m = 0 then Y 27 m + 1 else Y 27 m)) hk0 (if_pos (by omega)), fed0_s (f := Y 28) (b := (isWetS I F (S 20 4))) hk0 hz1]) _ _ _ hG hS (lv_sub hl [0, 2, 3] rfl)
  exact loop14_1 ((I 15 - 0 : Int).toNat + 1) 0 Y (by omega) (by omega) (by omega) (by rw [fedT_0, fedT_0, up_self, up_self]) _ _ _ hG hS (lv_sub hl [0, 1, 2] rfl)
