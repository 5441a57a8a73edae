/-! THE COMPONENT: what slides, what is wet -/
set_option maxRecDepth 100000

theorem fed0_s {f b : Int → Int} {k v : Int} (hk : 0 ≤ k) (hv : b k = v) : updZ (fedT f 0 b k) k v = fedT f 0 b (k + 1) := by
  have h := fedT_s f 0 b hk
  rw [Int.zero_add, hv] at h
  exact h
theorem fed0_n {f b : Int → Int} {k : Int} (hk : 0 ≤ k) (hv : b k = f k) : fedT f 0 b k = fedT f 0 b (k + 1) := by
  rw [← fed0_s hk hv]
  funext z
  by_cases h : z = k
  · subst h
    rw [updZ_s]
    unfold fedT
    rw [if_neg (by omega)]
  · rw [updZ_n h]
theorem fed0_at {f b : Int → Int} {k : Int} : fedT f 0 b k k = f k := by
  unfold fedT
  rw [if_neg (by omega)]
theorem dX1_slides_0 : decode cX1_slides 0 = .ok (.iconst 0, 1) := by decide +kernel
theorem dX1_slides_1 : decode cX1_slides 1 = .ok (.istore_n 1, 1) := by decide +kernel
theorem dX1_slides_2 : decode cX1_slides 2 = .ok (.iload_n 1, 1) := by decide +kernel
theorem dX1_slides_3 : decode cX1_slides 3 = .ok (.aload_n 0, 1) := by decide +kernel
theorem dX1_slides_4 : decode cX1_slides 4 = .ok (.getfield 3, 3) := by decide +kernel
theorem dX1_slides_7 : decode cX1_slides 7 = .ok (.getfield 73, 3) := by decide +kernel
theorem dX1_slides_10 : decode cX1_slides 10 = .ok (.invokevirtual 77, 3) := by decide +kernel
theorem dX1_slides_13 : decode cX1_slides 13 = .ok (.if_icmp .ge 106, 3) := by decide +kernel
theorem dX1_slides_16 : decode cX1_slides 16 = .ok (.aload_n 0, 1) := by decide +kernel
theorem dX1_slides_17 : decode cX1_slides 17 = .ok (.getfield 3, 3) := by decide +kernel
theorem dX1_slides_20 : decode cX1_slides 20 = .ok (.getfield 73, 3) := by decide +kernel
theorem dX1_slides_23 : decode cX1_slides 23 = .ok (.iload_n 1, 1) := by decide +kernel
theorem dX1_slides_24 : decode cX1_slides 24 = .ok (.invokevirtual 83, 3) := by decide +kernel
theorem dX1_slides_27 : decode cX1_slides 27 = .ok (.checkcast 87, 3) := by decide +kernel
theorem dX1_slides_30 : decode cX1_slides 30 = .ok (.astore_n 2, 1) := by decide +kernel
theorem dX1_slides_31 : decode cX1_slides 31 = .ok (.aload_n 2, 1) := by decide +kernel
theorem dX1_slides_32 : decode cX1_slides 32 = .ok (.getfield 89, 3) := by decide +kernel
theorem dX1_slides_35 : decode cX1_slides 35 = .ok (.ifCond .ne 78, 3) := by decide +kernel
theorem dX1_slides_38 : decode cX1_slides 38 = .ok (.aload_n 2, 1) := by decide +kernel
theorem dX1_slides_39 : decode cX1_slides 39 = .ok (.getfield 108, 3) := by decide +kernel
theorem dX1_slides_42 : decode cX1_slides 42 = .ok (.iconst (-1), 1) := by decide +kernel
theorem dX1_slides_43 : decode cX1_slides 43 = .ok (.if_icmp .ne 6, 3) := by decide +kernel
theorem dX1_slides_46 : decode cX1_slides 46 = .ok (.goto 67, 3) := by decide +kernel
theorem dX1_slides_49 : decode cX1_slides 49 = .ok (.aload_n 0, 1) := by decide +kernel
theorem dX1_slides_50 : decode cX1_slides 50 = .ok (.getfield 35, 3) := by decide +kernel
theorem dX1_slides_53 : decode cX1_slides 53 = .ok (.aload_n 2, 1) := by decide +kernel
theorem dX1_slides_54 : decode cX1_slides 54 = .ok (.getfield 108, 3) := by decide +kernel
theorem dX1_slides_57 : decode cX1_slides 57 = .ok (.if_icmp .le 25, 3) := by decide +kernel
theorem dX1_slides_60 : decode cX1_slides 60 = .ok (.aload_n 0, 1) := by decide +kernel
theorem dX1_slides_61 : decode cX1_slides 61 = .ok (.getfield 15, 3) := by decide +kernel
theorem dX1_slides_64 : decode cX1_slides 64 = .ok (.iload_n 1, 1) := by decide +kernel
theorem dX1_slides_65 : decode cX1_slides 65 = .ok (.bipush 19, 2) := by decide +kernel
theorem dX1_slides_67 : decode cX1_slides 67 = .ok (.aload_n 0, 1) := by decide +kernel
theorem dX1_slides_68 : decode cX1_slides 68 = .ok (.getfield 15, 3) := by decide +kernel
theorem dX1_slides_71 : decode cX1_slides 71 = .ok (.iload_n 1, 1) := by decide +kernel
theorem dX1_slides_72 : decode cX1_slides 72 = .ok (.iaload, 1) := by decide +kernel
theorem dX1_slides_73 : decode cX1_slides 73 = .ok (.iconst 1, 1) := by decide +kernel
theorem dX1_slides_74 : decode cX1_slides 74 = .ok (.iadd, 1) := by decide +kernel
theorem dX1_slides_75 : decode cX1_slides 75 = .ok (.invokestatic 111, 3) := by decide +kernel
theorem dX1_slides_78 : decode cX1_slides 78 = .ok (.iastore, 1) := by decide +kernel
theorem dX1_slides_79 : decode cX1_slides 79 = .ok (.goto 34, 3) := by decide +kernel
theorem dX1_slides_82 : decode cX1_slides 82 = .ok (.aload_n 0, 1) := by decide +kernel
theorem dX1_slides_83 : decode cX1_slides 83 = .ok (.getfield 35, 3) := by decide +kernel
theorem dX1_slides_86 : decode cX1_slides 86 = .ok (.aload_n 2, 1) := by decide +kernel
theorem dX1_slides_87 : decode cX1_slides 87 = .ok (.getfield 108, 3) := by decide +kernel
theorem dX1_slides_90 : decode cX1_slides 90 = .ok (.ineg, 1) := by decide +kernel
theorem dX1_slides_91 : decode cX1_slides 91 = .ok (.if_icmp .ge 22, 3) := by decide +kernel
theorem dX1_slides_94 : decode cX1_slides 94 = .ok (.aload_n 0, 1) := by decide +kernel
theorem dX1_slides_95 : decode cX1_slides 95 = .ok (.getfield 15, 3) := by decide +kernel
theorem dX1_slides_98 : decode cX1_slides 98 = .ok (.iload_n 1, 1) := by decide +kernel
theorem dX1_slides_99 : decode cX1_slides 99 = .ok (.bipush (-19), 2) := by decide +kernel
theorem dX1_slides_101 : decode cX1_slides 101 = .ok (.aload_n 0, 1) := by decide +kernel
theorem dX1_slides_102 : decode cX1_slides 102 = .ok (.getfield 15, 3) := by decide +kernel
theorem dX1_slides_105 : decode cX1_slides 105 = .ok (.iload_n 1, 1) := by decide +kernel
theorem dX1_slides_106 : decode cX1_slides 106 = .ok (.iaload, 1) := by decide +kernel
theorem dX1_slides_107 : decode cX1_slides 107 = .ok (.iconst 1, 1) := by decide +kernel
theorem dX1_slides_108 : decode cX1_slides 108 = .ok (.isub, 1) := by decide +kernel
theorem dX1_slides_109 : decode cX1_slides 109 = .ok (.invokestatic 115, 3) := by decide +kernel
theorem dX1_slides_112 : decode cX1_slides 112 = .ok (.iastore, 1) := by decide +kernel
theorem dX1_slides_113 : decode cX1_slides 113 = .ok (.iinc 1 1, 3) := by decide +kernel
theorem dX1_slides_116 : decode cX1_slides 116 = .ok (.goto (-114), 3) := by decide +kernel
theorem dX1_slides_119 : decode cX1_slides 119 = .ok (.return_, 1) := by decide +kernel
set_option maxHeartbeats 4000000 in
theorem cslides_19 (l : Launch) (adK adV st : Nat → Nat) (D : va_G) (E : Nat → ClassId) (A : Nat → Prop) (ad nv : Nat → Nat) (I : Nat → Int) (F : Nat → Int → Int) (S : Nat → Nat → Int) (Y : Nat → Int → Int) (L : Nat → Nat) (hn : cOK nv I L) (gl0 : gLoad I F) (b28 : -80 ≤ S 19 4 ∧ S 19 4 ≤ 80) (gp0 : Bd (Y 21) 12 (-19) 19) : CM l yX1_slides cX1_slides 3 none (mrm 3) adK adV st D E A ad nv [.ref (ad 19)] I F S Y L (CQv D E A ad nv L (fun I1 F1 S1 Y1 => I = I1 ∧ F = F1 ∧ S = S1 ∧ va_up Y 21 (fedT (Y 21) 0 (slidS (F 9) (F 8) (S 19 4) (Y 21)) (I 4)) = Y1)) := by
  refine c_start (by decide) rfl (Nat.le_of_ble_eq_true rfl) ?_
  intro p e R s m args below meth c ls Q hR hQ hCK hml hr hlk hG hS hE hl
  have hx := hCK.1
  have hb := hCK.2.1
  have hown := hCK.2.2.1
  have hts := hCK.2.2.2.1
  have hK := hCK.2.2.2.2
  have hl : lv_has ls 3 [(0, .ref (ad 19))] := hl
  obtain ⟨⟨n0, n1, n2, n3⟩, ⟨l0, l1, l2, l3⟩, c0, c1, c2, c3⟩ := id hn
  obtain ⟨i4, a5, a6, a7, a8, a9, i10, a11, a12, a13, a14, a14h⟩ := id gl0
  refine r_iconst hx hb dX1_slides_0 ?_
  refine lv_istore_n (lv' := [(1, .int (iI 0)), (0, .ref (ad 19))]) hx hb dX1_slides_1 rfl hl (by decide) rfl (fun ls hl => ?_)
  have loop2_1 : ∀ (n : Nat) (k : Int) (Y1 : Nat → Int → Int), I 4 - k < (n : Int) → 0 ≤ k → k ≤ I 4 → Y1 = va_up Y 21 (fedT (Y 21) 0 (slidS (F 9) (F 8) (S 19 4) (Y 21)) k) → ∀ (H : Heap) (locs : List Loc) (ls : Array Slot), CW D E A ad nv I F S Y1 L H → va_S A s.heap H locs → lv_has ls 3 [(1, .int (iI k)), (0, .ref (ad 19))] → W p l e R s m args below meth c H locs 0 0 Q (F0 m 2 ls []) := by
    intro n
    induction n with
    | zero => intro k Y1 hn3 hk0 hk1 eY; exfalso; omega
    | succ n ih2 =>
      intro k Y1 hn3 hk0 hk1 eY H locs ls hG hS hl
      subst eY
      refine lv_iload_n hx hb dX1_slides_2 rfl (lv_at hl 0 rfl) ?_
      refine lv_aload_n hx hb dX1_slides_3 rfl (lv_at hl 1 rfl) ?_
      refine cg_X1_3 hCK hG (r := 19) (Or.inl rfl) dX1_slides_4 ?_
      refine cg_X1_73 hCK hE hG dX1_slides_7 ?_
      refine s_calli (j_runV (n := 0) (C := RJ2) (b := ad 12) (rest := [.int (iI k)]) (as := []) hx hb hml hown hts (lsz_12 l adK adV st D E A ad nv I F S (va_up Y 21 (fedT (Y 21) 0 (slidS (F 9) (F 8) (S 19 4) (Y 21)) k)) L) GB.blind (GB.at hK hG hE hS) (g_rec (r := 12) (ci := 10) hK hG (Or.inl (by decide)) rfl (cC_l (by decide))) q859 q614 q615 q71 q616 (by decide +kernel) ⟨rfl, rfl⟩ hR (by decide) ⟨Nat.zero_le _, Nat.zero_le _⟩ rfl hl.1 rfl (Nat.le_of_ble_eq_true rfl) dX1_slides_10) ?_
      refine r_icmp_ge (tgt := 119) hx hb dX1_slides_13 (by decide) (by omega) (by omega) (fun c4 => ?_) (fun c4 => ?_)
      · have ek : k = I 4 := by omega
        exact c_vret hCK hQ hr hlk hG hS dX1_slides_119 (⟨rfl, rfl, rfl, by rw [ek]⟩)
      · have b9 := a9 k (by omega) (by omega)
        have b8 := a8 k (by omega) (by omega)
        have bp := gp0 k (by omega) (by omega)
        refine lv_aload_n hx hb dX1_slides_16 rfl (lv_at hl 1 rfl) ?_
        refine cg_X1_3 hCK hG (r := 19) (Or.inl rfl) dX1_slides_17 ?_
        refine cg_X1_73 hCK hE hG dX1_slides_20 ?_
        refine lv_iload_n hx hb dX1_slides_23 rfl (lv_at hl 0 rfl) ?_
        refine j_callr (j_runV (n := 1) (C := RJ2) (b := ad 12) (rest := []) (as := [.int (iI k)]) hx hb hml hown hts (lgt_12 l adK adV st D E A ad nv I F S (va_up Y 21 (fedT (Y 21) 0 (slidS (F 9) (F 8) (S 19 4) (Y 21)) k)) L k (by omega) (by omega) (by omega)) GB.blind (GB.at hK hG hE hS) (g_rec (r := 12) (ci := 10) hK hG (Or.inl (by decide)) rfl (cC_l (by decide))) q860 q620 q621 q71 q622 (by decide +kernel) ⟨rfl, rfl⟩ hR (by decide) ⟨Nat.zero_le _, Nat.zero_le _⟩ rfl hl.1 rfl (Nat.le_of_ble_eq_true rfl) dX1_slides_24) ?_
        refine c_cast (r := 3200 + k.toNat) (ci := 4) hCK hG (by have := (show (0 : Int) ≤ k ∧ k < 100 by omega); unfold cV; omega) rfl (cC_wt (by have := (show (0 : Int) ≤ k ∧ k < 100 by omega); omega)) q861 dX1_slides_27 ?_
        refine lv_astore_n (lv' := [(2, .ref (ad (3200 + k.toNat))), (1, .int (iI k)), (0, .ref (ad 19))]) hx hb dX1_slides_30 rfl hl (by decide) rfl (fun ls hl => ?_)
        refine lv_aload_n hx hb dX1_slides_31 rfl (lv_at hl 0 rfl) ?_
        refine cg_X1_89 (v := F 9 k) (z := k) hCK hE hG (by omega) rfl dX1_slides_32 ?_
        refine r_if_ne (tgt := 113) hx hb dX1_slides_35 (by decide) (by omega) (fun c5 => ?_) (fun c5 => ?_)
        · refine lv_iinc (v := iI (k + 1)) (lv' := [(1, .int (iI (k + 1))), (2, .ref (ad (3200 + k.toNat))), (0, .ref (ad 19))]) hx hb dX1_slides_113 hl (k := 1) rfl (iI_add _ _) (by decide) rfl (fun ls hl => ?_)
          refine lv_goto (tgt := 2) hx hb dX1_slides_116 (by decide) ?_
          exact ih2 (k + 1) (va_up Y 21 (fedT (Y 21) 0 (slidS (F 9) (F 8) (S 19 4) (Y 21)) k)) (by omega) (by omega) (by omega) (by rw [fed0_n (f := Y 21) (b := (slidS (F 9) (F 8) (S 19 4) (Y 21))) hk0 (by show slidS (F 9) (F 8) (S 19 4) (Y 21) k = _; unfold slidS; repeat (first | omega | split))]) _ _ _ hG hS (lv_sub hl [0, 2] rfl)
        · refine lv_aload_n hx hb dX1_slides_38 rfl (lv_at hl 0 rfl) ?_
          refine cg_X1_108 (v := F 8 k) (z := k) hCK hE hG (by omega) rfl dX1_slides_39 ?_
          refine r_iconst hx hb dX1_slides_42 ?_
          refine r_icmp_ne (tgt := 49) hx hb dX1_slides_43 (by decide) (by omega) (by decide) (fun c6 => ?_) (fun c6 => ?_)
          · refine lv_aload_n hx hb dX1_slides_49 rfl (lv_at hl 2 rfl) ?_
            refine cg_X1_35 (v := S 19 4) hCK hG (r := 19) (Or.inl rfl) rfl dX1_slides_50 ?_
            refine lv_aload_n hx hb dX1_slides_53 rfl (lv_at hl 0 rfl) ?_
            refine cg_X1_108 (v := F 8 k) (z := k) hCK hE hG (by omega) rfl dX1_slides_54 ?_
            refine r_icmp_le (tgt := 82) hx hb dX1_slides_57 (by decide) (by omega) (by omega) (fun c7 => ?_) (fun c7 => ?_)
            · refine lv_aload_n hx hb dX1_slides_82 rfl (lv_at hl 2 rfl) ?_
              refine cg_X1_35 (v := S 19 4) hCK hG (r := 19) (Or.inl rfl) rfl dX1_slides_83 ?_
              refine lv_aload_n hx hb dX1_slides_86 rfl (lv_at hl 0 rfl) ?_
              refine cg_X1_108 (v := F 8 k) (z := k) hCK hE hG (by omega) rfl dX1_slides_87 ?_
              refine r_ineg hx hb dX1_slides_90 ?_
              refine r_icmp_ge (tgt := 113) hx hb dX1_slides_91 (by decide) (by omega) (by omega) (fun c8 => ?_) (fun c8 => ?_)
              · refine lv_iinc (v := iI (k + 1)) (lv' := [(1, .int (iI (k + 1))), (2, .ref (ad (3200 + k.toNat))), (0, .ref (ad 19))]) hx hb dX1_slides_113 hl (k := 1) rfl (iI_add _ _) (by decide) rfl (fun ls hl => ?_)
                refine lv_goto (tgt := 2) hx hb dX1_slides_116 (by decide) ?_
                exact ih2 (k + 1) (va_up Y 21 (fedT (Y 21) 0 (slidS (F 9) (F 8) (S 19 4) (Y 21)) k)) (by omega) (by omega) (by omega) (by rw [fed0_n (f := Y 21) (b := (slidS (F 9) (F 8) (S 19 4) (Y 21))) hk0 (by show slidS (F 9) (F 8) (S 19 4) (Y 21) k = _; unfold slidS; repeat (first | omega | split))]) _ _ _ hG hS (lv_sub hl [0, 2] rfl)
              · refine lv_aload_n hx hb dX1_slides_94 rfl (lv_at hl 2 rfl) ?_
                refine cg_X1_15 hCK hG (r := 19) (Or.inl rfl) dX1_slides_95 ?_
                refine W.eq (g2 := F0 m 98 ls [.ref (ad 21)]) rfl ?_
                refine lv_iload_n hx hb dX1_slides_98 rfl (lv_at hl 1 rfl) ?_
                refine r_bipush hx hb dX1_slides_99 (by decide) ?_
                refine lv_aload_n hx hb dX1_slides_101 rfl (lv_at hl 2 rfl) ?_
                refine cg_X1_15 hCK hG (r := 19) (Or.inl rfl) dX1_slides_102 ?_
                refine W.eq (g2 := F0 m 105 ls [.ref (ad 21), .int (iI (-19)), .int (iI k), .ref (ad 21)]) rfl ?_
                refine lv_iload_n hx hb dX1_slides_105 rfl (lv_at hl 1 rfl) ?_
                refine cl_s0 (v := Y 21 k) (r := 19) hCK hG (Or.inl rfl) (by omega) fed0_at dX1_slides_106 ?_
                refine r_iconst hx hb dX1_slides_107 ?_
                refine r_isub hx hb dX1_slides_108 ?_
                refine s_calli (j_runS (n := 2) (rest := [.int (iI k), .ref (ad 21)]) (as := [.int (iI (-19)), .int (iI ((Y 21 k) - 1))]) hx hb hml hown hts ((met_max l (-19) ((Y 21 k) - 1) (by decide) (by omega)).jm) (fun _ _ _ _ _ => trivial) (fun _ _ _ => trivial) q863 q406 q76 q407 (by decide +kernel) ⟨rfl, rfl⟩ hR (by decide) ⟨Nat.zero_le _, Nat.zero_le _⟩ rfl hl.1 rfl (Nat.le_of_ble_eq_true rfl) dX1_slides_109) ?_
                refine cs_s0 (r := 19) (z := k) (v := if (-19) < ((Y 21 k) - 1) then ((Y 21 k) - 1) else (-19)) hCK hG hS (Or.inl rfl) (by omega) dX1_slides_112 (fun H locs hG hS => ?_)
                have hG : CW D E A ad nv I F S (va_up Y 21 (updZ (fedT (Y 21) 0 (slidS (F 9) (F 8) (S 19 4) (Y 21)) k) k (if (-19) < ((Y 21 k) - 1) then ((Y 21 k) - 1) else (-19)))) L H := by
                  have eY : va_up Y 21 (updZ (fedT (Y 21) 0 (slidS (F 9) (F 8) (S 19 4) (Y 21)) k) k (if (-19) < ((Y 21 k) - 1) then ((Y 21 k) - 1) else (-19))) = va_up (va_up Y 21 (fedT (Y 21) 0 (slidS (F 9) (F 8) (S 19 4) (Y 21)) k)) 21 (updZ ((va_up Y 21 (fedT (Y 21) 0 (slidS (F 9) (F 8) (S 19 4) (Y 21)) k)) 21) k (if (-19) < ((Y 21 k) - 1) then ((Y 21 k) - 1) else (-19))) := by
                    funext i
                    by_cases h1 : i = 21
                    · subst h1; simp [va_up]
                    · simp [va_up, h1]
                  rw [eY]; exact hG
                refine lv_iinc (v := iI (k + 1)) (lv' := [(1, .int (iI (k + 1))), (2, .ref (ad (3200 + k.toNat))), (0, .ref (ad 19))]) hx hb dX1_slides_113 hl (k := 1) rfl (iI_add _ _) (by decide) rfl (fun ls hl => ?_)
                refine lv_goto (tgt := 2) hx hb dX1_slides_116 (by decide) ?_
                exact ih2 (k + 1) (va_up Y 21 (updZ (fedT (Y 21) 0 (slidS (F 9) (F 8) (S 19 4) (Y 21)) k) k (if (-19) < ((Y 21 k) - 1) then ((Y 21 k) - 1) else (-19)))) (by omega) (by omega) (by omega) (by rw [fed0_s (f := Y 21) (b := (slidS (F 9) (F 8) (S 19 4) (Y 21))) hk0 (by show slidS (F 9) (F 8) (S 19 4) (Y 21) k = _; unfold slidS; repeat (first | omega | split))]) _ _ _ hG hS (lv_sub hl [0, 2] rfl)
            · refine lv_aload_n hx hb dX1_slides_60 rfl (lv_at hl 2 rfl) ?_
              refine cg_X1_15 hCK hG (r := 19) (Or.inl rfl) dX1_slides_61 ?_
              refine W.eq (g2 := F0 m 64 ls [.ref (ad 21)]) rfl ?_
              refine lv_iload_n hx hb dX1_slides_64 rfl (lv_at hl 1 rfl) ?_
              refine r_bipush hx hb dX1_slides_65 (by decide) ?_
              refine lv_aload_n hx hb dX1_slides_67 rfl (lv_at hl 2 rfl) ?_
              refine cg_X1_15 hCK hG (r := 19) (Or.inl rfl) dX1_slides_68 ?_
              refine W.eq (g2 := F0 m 71 ls [.ref (ad 21), .int (iI 19), .int (iI k), .ref (ad 21)]) rfl ?_
              refine lv_iload_n hx hb dX1_slides_71 rfl (lv_at hl 1 rfl) ?_
              refine cl_s0 (v := Y 21 k) (r := 19) hCK hG (Or.inl rfl) (by omega) fed0_at dX1_slides_72 ?_
              refine r_iconst hx hb dX1_slides_73 ?_
              refine r_iadd hx hb dX1_slides_74 ?_
              refine s_calli (j_runS (n := 2) (rest := [.int (iI k), .ref (ad 21)]) (as := [.int (iI 19), .int (iI ((Y 21 k) + 1))]) hx hb hml hown hts ((met_min l 19 ((Y 21 k) + 1) (by decide) (by omega)).jm) (fun _ _ _ _ _ => trivial) (fun _ _ _ => trivial) q862 q374 q76 q375 (by decide +kernel) ⟨rfl, rfl⟩ hR (by decide) ⟨Nat.zero_le _, Nat.zero_le _⟩ rfl hl.1 rfl (Nat.le_of_ble_eq_true rfl) dX1_slides_75) ?_
              refine cs_s0 (r := 19) (z := k) (v := if ((Y 21 k) + 1) < 19 then ((Y 21 k) + 1) else 19) hCK hG hS (Or.inl rfl) (by omega) dX1_slides_78 (fun H locs hG hS => ?_)
              have hG : CW D E A ad nv I F S (va_up Y 21 (updZ (fedT (Y 21) 0 (slidS (F 9) (F 8) (S 19 4) (Y 21)) k) k (if ((Y 21 k) + 1) < 19 then ((Y 21 k) + 1) else 19))) L H := by
                have eY : va_up Y 21 (updZ (fedT (Y 21) 0 (slidS (F 9) (F 8) (S 19 4) (Y 21)) k) k (if ((Y 21 k) + 1) < 19 then ((Y 21 k) + 1) else 19)) = va_up (va_up Y 21 (fedT (Y 21) 0 (slidS (F 9) (F 8) (S 19 4) (Y 21)) k)) 21 (updZ ((va_up Y 21 (fedT (Y 21) 0 (slidS (F 9) (F 8) (S 19 4) (Y 21)) k)) 21) k (if ((Y 21 k) + 1) < 19 then ((Y 21 k) + 1) else 19)) := by
                  funext i
                  by_cases h1 : i = 21
                  · subst h1; simp [va_up]
                  · simp [va_up, h1]
                rw [eY]; exact hG
              refine lv_goto (tgt := 113) hx hb dX1_slides_79 (by decide) ?_
              refine lv_iinc (v := iI (k + 1)) (lv' := [(1, .int (iI (k + 1))), (2, .ref (ad (3200 + k.toNat))), (0, .ref (ad 19))]) hx hb dX1_slides_113 hl (k := 1) rfl (iI_add _ _) (by decide) rfl (fun ls hl => ?_)
              refine lv_goto (tgt := 2) hx hb dX1_slides_116 (by decide) ?_
              exact ih2 (k + 1) (va_up Y 21 (updZ (fedT (Y 21) 0 (slidS (F 9) (F 8) (S 19 4) (Y 21)) k) k (if ((Y 21 k) + 1) < 19 then ((Y 21 k) + 1) else 19))) (by omega) (by omega) (by omega) (by rw [fed0_s (f := Y 21) (b := (slidS (F 9) (F 8) (S 19 4) (Y 21))) hk0 (by show slidS (F 9) (F 8) (S 19 4) (Y 21) k = _; unfold slidS; repeat (first | omega | split))]) _ _ _ hG hS (lv_sub hl [0, 2] rfl)
          · refine lv_goto (tgt := 113) hx hb dX1_slides_46 (by decide) ?_
            refine lv_iinc (v := iI (k + 1)) (lv' := [(1, .int (iI (k + 1))), (2, .ref (ad (3200 + k.toNat))), (0, .ref (ad 19))]) hx hb dX1_slides_113 hl (k := 1) rfl (iI_add _ _) (by decide) rfl (fun ls hl => ?_)
            refine lv_goto (tgt := 2) hx hb dX1_slides_116 (by decide) ?_
            exact ih2 (k + 1) (va_up Y 21 (fedT (Y 21) 0 (slidS (F 9) (F 8) (S 19 4) (Y 21)) k)) (by omega) (by omega) (by omega) (by rw [fed0_n (f := Y 21) (b := (slidS (F 9) (F 8) (S 19 4) (Y 21))) hk0 (by show slidS (F 9) (F 8) (S 19 4) (Y 21) k = _; unfold slidS; repeat (first | omega | split))]) _ _ _ hG hS (lv_sub hl [0, 2] rfl)
  exact loop2_1 ((I 4 - 0 : Int).toNat + 1) 0 Y (by omega) (by omega) (by omega) (by rw [fedT_0, up_self]) _ _ _ hG hS (lv_sub hl [0, 1] rfl)
set_option maxHeartbeats 4000000 in
theorem cslides_20 (l : Launch) (adK adV st : Nat → Nat) (D : va_G) (E : Nat → ClassId) (A : Nat → Prop) (ad nv : Nat → Nat) (I : Nat → Int) (F : Nat → Int → Int) (S : Nat → Nat → Int) (Y : Nat → Int → Int) (L : Nat → Nat) (hn : cOK nv I L) (gl0 : gLoad I F) (b28 : -80 ≤ S 20 4 ∧ S 20 4 ≤ 80) (gp0 : Bd (Y 25) 12 (-19) 19) : CM l yX1_slides cX1_slides 3 none (mrm 3) adK adV st D E A ad nv [.ref (ad 20)] I F S Y L (CQv D E A ad nv L (fun I1 F1 S1 Y1 => I = I1 ∧ F = F1 ∧ S = S1 ∧ va_up Y 25 (fedT (Y 25) 0 (slidS (F 9) (F 8) (S 20 4) (Y 25)) (I 4)) = Y1)) := by
  refine c_start (by decide) rfl (Nat.le_of_ble_eq_true rfl) ?_
  intro p e R s m args below meth c ls Q hR hQ hCK hml hr hlk hG hS hE hl
  have hx := hCK.1
  have hb := hCK.2.1
  have hown := hCK.2.2.1
  have hts := hCK.2.2.2.1
  have hK := hCK.2.2.2.2
  have hl : lv_has ls 3 [(0, .ref (ad 20))] := hl
  obtain ⟨⟨n0, n1, n2, n3⟩, ⟨l0, l1, l2, l3⟩, c0, c1, c2, c3⟩ := id hn
  obtain ⟨i4, a5, a6, a7, a8, a9, i10, a11, a12, a13, a14, a14h⟩ := id gl0
  refine r_iconst hx hb dX1_slides_0 ?_
  refine lv_istore_n (lv' := [(1, .int (iI 0)), (0, .ref (ad 20))]) hx hb dX1_slides_1 rfl hl (by decide) rfl (fun ls hl => ?_)
  have loop2_1 : ∀ (n : Nat) (k : Int) (Y1 : Nat → Int → Int), I 4 - k < (n : Int) → 0 ≤ k → k ≤ I 4 → Y1 = va_up Y 25 (fedT (Y 25) 0 (slidS (F 9) (F 8) (S 20 4) (Y 25)) k) → ∀ (H : Heap) (locs : List Loc) (ls : Array Slot), CW D E A ad nv I F S Y1 L H → va_S A s.heap H locs → lv_has ls 3 [(1, .int (iI k)), (0, .ref (ad 20))] → W p l e R s m args below meth c H locs 0 0 Q (F0 m 2 ls []) := by
    intro n
    induction n with
    | zero => intro k Y1 hn3 hk0 hk1 eY; exfalso; omega
    | succ n ih2 =>
      intro k Y1 hn3 hk0 hk1 eY H locs ls hG hS hl
      subst eY
      refine lv_iload_n hx hb dX1_slides_2 rfl (lv_at hl 0 rfl) ?_
      refine lv_aload_n hx hb dX1_slides_3 rfl (lv_at hl 1 rfl) ?_
      refine cg_X1_3 hCK hG (r := 20) (Or.inr rfl) dX1_slides_4 ?_
      refine cg_X1_73 hCK hE hG dX1_slides_7 ?_
      refine s_calli (j_runV (n := 0) (C := RJ2) (b := ad 12) (rest := [.int (iI k)]) (as := []) hx hb hml hown hts (lsz_12 l adK adV st D E A ad nv I F S (va_up Y 25 (fedT (Y 25) 0 (slidS (F 9) (F 8) (S 20 4) (Y 25)) k)) L) GB.blind (GB.at hK hG hE hS) (g_rec (r := 12) (ci := 10) hK hG (Or.inl (by decide)) rfl (cC_l (by decide))) q859 q614 q615 q71 q616 (by decide +kernel) ⟨rfl, rfl⟩ hR (by decide) ⟨Nat.zero_le _, Nat.zero_le _⟩ rfl hl.1 rfl (Nat.le_of_ble_eq_true rfl) dX1_slides_10) ?_
      refine r_icmp_ge (tgt := 119) hx hb dX1_slides_13 (by decide) (by omega) (by omega) (fun c4 => ?_) (fun c4 => ?_)
      · have ek : k = I 4 := by omega
        exact c_vret hCK hQ hr hlk hG hS dX1_slides_119 (⟨rfl, rfl, rfl, by rw [ek]⟩)
      · have b9 := a9 k (by omega) (by omega)
        have b8 := a8 k (by omega) (by omega)
        have bp := gp0 k (by omega) (by omega)
        refine lv_aload_n hx hb dX1_slides_16 rfl (lv_at hl 1 rfl) ?_
        refine cg_X1_3 hCK hG (r := 20) (Or.inr rfl) dX1_slides_17 ?_
        refine cg_X1_73 hCK hE hG dX1_slides_20 ?_
        refine lv_iload_n hx hb dX1_slides_23 rfl (lv_at hl 0 rfl) ?_
        refine j_callr (j_runV (n := 1) (C := RJ2) (b := ad 12) (rest := []) (as := [.int (iI k)]) hx hb hml hown hts (lgt_12 l adK adV st D E A ad nv I F S (va_up Y 25 (fedT (Y 25) 0 (slidS (F 9) (F 8) (S 20 4) (Y 25)) k)) L k (by omega) (by omega) (by omega)) GB.blind (GB.at hK hG hE hS) (g_rec (r := 12) (ci := 10) hK hG (Or.inl (by decide)) rfl (cC_l (by decide))) q860 q620 q621 q71 q622 (by decide +kernel) ⟨rfl, rfl⟩ hR (by decide) ⟨Nat.zero_le _, Nat.zero_le _⟩ rfl hl.1 rfl (Nat.le_of_ble_eq_true rfl) dX1_slides_24) ?_
        refine c_cast (r := 3200 + k.toNat) (ci := 4) hCK hG (by have := (show (0 : Int) ≤ k ∧ k < 100 by omega); unfold cV; omega) rfl (cC_wt (by have := (show (0 : Int) ≤ k ∧ k < 100 by omega); omega)) q861 dX1_slides_27 ?_
        refine lv_astore_n (lv' := [(2, .ref (ad (3200 + k.toNat))), (1, .int (iI k)), (0, .ref (ad 20))]) hx hb dX1_slides_30 rfl hl (by decide) rfl (fun ls hl => ?_)
        refine lv_aload_n hx hb dX1_slides_31 rfl (lv_at hl 0 rfl) ?_
        refine cg_X1_89 (v := F 9 k) (z := k) hCK hE hG (by omega) rfl dX1_slides_32 ?_
        refine r_if_ne (tgt := 113) hx hb dX1_slides_35 (by decide) (by omega) (fun c5 => ?_) (fun c5 => ?_)
        · refine lv_iinc (v := iI (k + 1)) (lv' := [(1, .int (iI (k + 1))), (2, .ref (ad (3200 + k.toNat))), (0, .ref (ad 20))]) hx hb dX1_slides_113 hl (k := 1) rfl (iI_add _ _) (by decide) rfl (fun ls hl => ?_)
          refine lv_goto (tgt := 2) hx hb dX1_slides_116 (by decide) ?_
          exact ih2 (k + 1) (va_up Y 25 (fedT (Y 25) 0 (slidS (F 9) (F 8) (S 20 4) (Y 25)) k)) (by omega) (by omega) (by omega) (by rw [fed0_n (f := Y 25) (b := (slidS (F 9) (F 8) (S 20 4) (Y 25))) hk0 (by show slidS (F 9) (F 8) (S 20 4) (Y 25) k = _; unfold slidS; repeat (first | omega | split))]) _ _ _ hG hS (lv_sub hl [0, 2] rfl)
        · refine lv_aload_n hx hb dX1_slides_38 rfl (lv_at hl 0 rfl) ?_
          refine cg_X1_108 (v := F 8 k) (z := k) hCK hE hG (by omega) rfl dX1_slides_39 ?_
          refine r_iconst hx hb dX1_slides_42 ?_
          refine r_icmp_ne (tgt := 49) hx hb dX1_slides_43 (by decide) (by omega) (by decide) (fun c6 => ?_) (fun c6 => ?_)
          · refine lv_aload_n hx hb dX1_slides_49 rfl (lv_at hl 2 rfl) ?_
            refine cg_X1_35 (v := S 20 4) hCK hG (r := 20) (Or.inr rfl) rfl dX1_slides_50 ?_
            refine lv_aload_n hx hb dX1_slides_53 rfl (lv_at hl 0 rfl) ?_
            refine cg_X1_108 (v := F 8 k) (z := k) hCK hE hG (by omega) rfl dX1_slides_54 ?_
            refine r_icmp_le (tgt := 82) hx hb dX1_slides_57 (by decide) (by omega) (by omega) (fun c7 => ?_) (fun c7 => ?_)
            · refine lv_aload_n hx hb dX1_slides_82 rfl (lv_at hl 2 rfl) ?_
              refine cg_X1_35 (v := S 20 4) hCK hG (r := 20) (Or.inr rfl) rfl dX1_slides_83 ?_
              refine lv_aload_n hx hb dX1_slides_86 rfl (lv_at hl 0 rfl) ?_
              refine cg_X1_108 (v := F 8 k) (z := k) hCK hE hG (by omega) rfl dX1_slides_87 ?_
              refine r_ineg hx hb dX1_slides_90 ?_
              refine r_icmp_ge (tgt := 113) hx hb dX1_slides_91 (by decide) (by omega) (by omega) (fun c8 => ?_) (fun c8 => ?_)
              · refine lv_iinc (v := iI (k + 1)) (lv' := [(1, .int (iI (k + 1))), (2, .ref (ad (3200 + k.toNat))), (0, .ref (ad 20))]) hx hb dX1_slides_113 hl (k := 1) rfl (iI_add _ _) (by decide) rfl (fun ls hl => ?_)
                refine lv_goto (tgt := 2) hx hb dX1_slides_116 (by decide) ?_
                exact ih2 (k + 1) (va_up Y 25 (fedT (Y 25) 0 (slidS (F 9) (F 8) (S 20 4) (Y 25)) k)) (by omega) (by omega) (by omega) (by rw [fed0_n (f := Y 25) (b := (slidS (F 9) (F 8) (S 20 4) (Y 25))) hk0 (by show slidS (F 9) (F 8) (S 20 4) (Y 25) k = _; unfold slidS; repeat (first | omega | split))]) _ _ _ hG hS (lv_sub hl [0, 2] rfl)
              · refine lv_aload_n hx hb dX1_slides_94 rfl (lv_at hl 2 rfl) ?_
                refine cg_X1_15 hCK hG (r := 20) (Or.inr rfl) dX1_slides_95 ?_
                refine W.eq (g2 := F0 m 98 ls [.ref (ad 25)]) rfl ?_
                refine lv_iload_n hx hb dX1_slides_98 rfl (lv_at hl 1 rfl) ?_
                refine r_bipush hx hb dX1_slides_99 (by decide) ?_
                refine lv_aload_n hx hb dX1_slides_101 rfl (lv_at hl 2 rfl) ?_
                refine cg_X1_15 hCK hG (r := 20) (Or.inr rfl) dX1_slides_102 ?_
                refine W.eq (g2 := F0 m 105 ls [.ref (ad 25), .int (iI (-19)), .int (iI k), .ref (ad 25)]) rfl ?_
                refine lv_iload_n hx hb dX1_slides_105 rfl (lv_at hl 1 rfl) ?_
                refine cl_s0 (v := Y 25 k) (r := 20) hCK hG (Or.inr rfl) (by omega) fed0_at dX1_slides_106 ?_
                refine r_iconst hx hb dX1_slides_107 ?_
                refine r_isub hx hb dX1_slides_108 ?_
                refine s_calli (j_runS (n := 2) (rest := [.int (iI k), .ref (ad 25)]) (as := [.int (iI (-19)), .int (iI ((Y 25 k) - 1))]) hx hb hml hown hts ((met_max l (-19) ((Y 25 k) - 1) (by decide) (by omega)).jm) (fun _ _ _ _ _ => trivial) (fun _ _ _ => trivial) q863 q406 q76 q407 (by decide +kernel) ⟨rfl, rfl⟩ hR (by decide) ⟨Nat.zero_le _, Nat.zero_le _⟩ rfl hl.1 rfl (Nat.le_of_ble_eq_true rfl) dX1_slides_109) ?_
                refine cs_s0 (r := 20) (z := k) (v := if (-19) < ((Y 25 k) - 1) then ((Y 25 k) - 1) else (-19)) hCK hG hS (Or.inr rfl) (by omega) dX1_slides_112 (fun H locs hG hS => ?_)
                have hG : CW D E A ad nv I F S (va_up Y 25 (updZ (fedT (Y 25) 0 (slidS (F 9) (F 8) (S 20 4) (Y 25)) k) k (if (-19) < ((Y 25 k) - 1) then ((Y 25 k) - 1) else (-19)))) L H := by
                  have eY : va_up Y 25 (updZ (fedT (Y 25) 0 (slidS (F 9) (F 8) (S 20 4) (Y 25)) k) k (if (-19) < ((Y 25 k) - 1) then ((Y 25 k) - 1) else (-19))) = va_up (va_up Y 25 (fedT (Y 25) 0 (slidS (F 9) (F 8) (S 20 4) (Y 25)) k)) 25 (updZ ((va_up Y 25 (fedT (Y 25) 0 (slidS (F 9) (F 8) (S 20 4) (Y 25)) k)) 25) k (if (-19) < ((Y 25 k) - 1) then ((Y 25 k) - 1) else (-19))) := by
                    funext i
                    by_cases h1 : i = 25
                    · subst h1; simp [va_up]
                    · simp [va_up, h1]
                  rw [eY]; exact hG
                refine lv_iinc (v := iI (k + 1)) (lv' := [(1, .int (iI (k + 1))), (2, .ref (ad (3200 + k.toNat))), (0, .ref (ad 20))]) hx hb dX1_slides_113 hl (k := 1) rfl (iI_add _ _) (by decide) rfl (fun ls hl => ?_)
                refine lv_goto (tgt := 2) hx hb dX1_slides_116 (by decide) ?_
                exact ih2 (k + 1) (va_up Y 25 (updZ (fedT (Y 25) 0 (slidS (F 9) (F 8) (S 20 4) (Y 25)) k) k (if (-19) < ((Y 25 k) - 1) then ((Y 25 k) - 1) else (-19)))) (by omega) (by omega) (by omega) (by rw [fed0_s (f := Y 25) (b := (slidS (F 9) (F 8) (S 20 4) (Y 25))) hk0 (by show slidS (F 9) (F 8) (S 20 4) (Y 25) k = _; unfold slidS; repeat (first | omega | split))]) _ _ _ hG hS (lv_sub hl [0, 2] rfl)
            · refine lv_aload_n hx hb dX1_slides_60 rfl (lv_at hl 2 rfl) ?_
              refine cg_X1_15 hCK hG (r := 20) (Or.inr rfl) dX1_slides_61 ?_
              refine W.eq (g2 := F0 m 64 ls [.ref (ad 25)]) rfl ?_
              refine lv_iload_n hx hb dX1_slides_64 rfl (lv_at hl 1 rfl) ?_
              refine r_bipush hx hb dX1_slides_65 (by decide) ?_
              refine lv_aload_n hx hb dX1_slides_67 rfl (lv_at hl 2 rfl) ?_
              refine cg_X1_15 hCK hG (r := 20) (Or.inr rfl) dX1_slides_68 ?_
              refine W.eq (g2 := F0 m 71 ls [.ref (ad 25), .int (iI 19), .int (iI k), .ref (ad 25)]) rfl ?_
              refine lv_iload_n hx hb dX1_slides_71 rfl (lv_at hl 1 rfl) ?_
              refine cl_s0 (v := Y 25 k) (r := 20) hCK hG (Or.inr rfl) (by omega) fed0_at dX1_slides_72 ?_
              refine r_iconst hx hb dX1_slides_73 ?_
              refine r_iadd hx hb dX1_slides_74 ?_
              refine s_calli (j_runS (n := 2) (rest := [.int (iI k), .ref (ad 25)]) (as := [.int (iI 19), .int (iI ((Y 25 k) + 1))]) hx hb hml hown hts ((met_min l 19 ((Y 25 k) + 1) (by decide) (by omega)).jm) (fun _ _ _ _ _ => trivial) (fun _ _ _ => trivial) q862 q374 q76 q375 (by decide +kernel) ⟨rfl, rfl⟩ hR (by decide) ⟨Nat.zero_le _, Nat.zero_le _⟩ rfl hl.1 rfl (Nat.le_of_ble_eq_true rfl) dX1_slides_75) ?_
              refine cs_s0 (r := 20) (z := k) (v := if ((Y 25 k) + 1) < 19 then ((Y 25 k) + 1) else 19) hCK hG hS (Or.inr rfl) (by omega) dX1_slides_78 (fun H locs hG hS => ?_)
              have hG : CW D E A ad nv I F S (va_up Y 25 (updZ (fedT (Y 25) 0 (slidS (F 9) (F 8) (S 20 4) (Y 25)) k) k (if ((Y 25 k) + 1) < 19 then ((Y 25 k) + 1) else 19))) L H := by
                have eY : va_up Y 25 (updZ (fedT (Y 25) 0 (slidS (F 9) (F 8) (S 20 4) (Y 25)) k) k (if ((Y 25 k) + 1) < 19 then ((Y 25 k) + 1) else 19)) = va_up (va_up Y 25 (fedT (Y 25) 0 (slidS (F 9) (F 8) (S 20 4) (Y 25)) k)) 25 (updZ ((va_up Y 25 (fedT (Y 25) 0 (slidS (F 9) (F 8) (S 20 4) (Y 25)) k)) 25) k (if ((Y 25 k) + 1) < 19 then ((Y 25 k) + 1) else 19)) := by
                  funext i
                  by_cases h1 : i = 25
                  · subst h1; simp [va_up]
                  · simp [va_up, h1]
                rw [eY]; exact hG
              refine lv_goto (tgt := 113) hx hb dX1_slides_79 (by decide) ?_
              refine lv_iinc (v := iI (k + 1)) (lv' := [(1, .int (iI (k + 1))), (2, .ref (ad (3200 + k.toNat))), (0, .ref (ad 20))]) hx hb dX1_slides_113 hl (k := 1) rfl (iI_add _ _) (by decide) rfl (fun ls hl => ?_)
              refine lv_goto (tgt := 2) hx hb dX1_slides_116 (by decide) ?_
              exact ih2 (k + 1) (va_up Y 25 (updZ (fedT (Y 25) 0 (slidS (F 9) (F 8) (S 20 4) (Y 25)) k) k (if ((Y 25 k) + 1) < 19 then ((Y 25 k) + 1) else 19))) (by omega) (by omega) (by omega) (by rw [fed0_s (f := Y 25) (b := (slidS (F 9) (F 8) (S 20 4) (Y 25))) hk0 (by show slidS (F 9) (F 8) (S 20 4) (Y 25) k = _; unfold slidS; repeat (first | omega | split))]) _ _ _ hG hS (lv_sub hl [0, 2] rfl)
          · refine lv_goto (tgt := 113) hx hb dX1_slides_46 (by decide) ?_
            refine lv_iinc (v := iI (k + 1)) (lv' := [(1, .int (iI (k + 1))), (2, .ref (ad (3200 + k.toNat))), (0, .ref (ad 20))]) hx hb dX1_slides_113 hl (k := 1) rfl (iI_add _ _) (by decide) rfl (fun ls hl => ?_)
            refine lv_goto (tgt := 2) hx hb dX1_slides_116 (by decide) ?_
            exact ih2 (k + 1) (va_up Y 25 (fedT (Y 25) 0 (slidS (F 9) (F 8) (S 20 4) (Y 25)) k)) (by omega) (by omega) (by omega) (by rw [fed0_n (f := Y 25) (b := (slidS (F 9) (F 8) (S 20 4) (Y 25))) hk0 (by show slidS (F 9) (F 8) (S 20 4) (Y 25) k = _; unfold slidS; repeat (first | omega | split))]) _ _ _ hG hS (lv_sub hl [0, 2] rfl)
  exact loop2_1 ((I 4 - 0 : Int).toNat + 1) 0 Y (by omega) (by omega) (by omega) (by rw [fedT_0, up_self]) _ _ _ hG hS (lv_sub hl [0, 1] rfl)
