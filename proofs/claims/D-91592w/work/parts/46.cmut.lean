/-! THE COMPONENT: methods that change a field or two -/
set_option maxRecDepth 100000
theorem dX0_mark_0 : decode cX0_mark 0 = .ok (.iload_n 1, 1) := by decide +kernel
theorem dX0_mark_1 : decode cX0_mark 1 = .ok (.i2l, 1) := by decide +kernel
theorem dX0_mark_2 : decode cX0_mark 2 = .ok (.ldc2_w 141, 3) := by decide +kernel
theorem dX0_mark_5 : decode cX0_mark 5 = .ok (.ldc2_w 143, 3) := by decide +kernel
theorem dX0_mark_8 : decode cX0_mark 8 = .ok (.invokestatic 101, 3) := by decide +kernel
theorem dX0_mark_11 : decode cX0_mark 11 = .ok (.ifCond .eq 24, 3) := by decide +kernel
theorem dX0_mark_14 : decode cX0_mark 14 = .ok (.iload_n 2, 1) := by decide +kernel
theorem dX0_mark_15 : decode cX0_mark 15 = .ok (.i2l, 1) := by decide +kernel
theorem dX0_mark_16 : decode cX0_mark 16 = .ok (.lconst 0, 1) := by decide +kernel
theorem dX0_mark_17 : decode cX0_mark 17 = .ok (.ldc2_w 145, 3) := by decide +kernel
theorem dX0_mark_20 : decode cX0_mark 20 = .ok (.invokestatic 101, 3) := by decide +kernel
theorem dX0_mark_23 : decode cX0_mark 23 = .ok (.ifCond .eq 12, 3) := by decide +kernel
theorem dX0_mark_26 : decode cX0_mark 26 = .ok (.aload_n 0, 1) := by decide +kernel
theorem dX0_mark_27 : decode cX0_mark 27 = .ok (.getfield 186, 3) := by decide +kernel
theorem dX0_mark_30 : decode cX0_mark 30 = .ok (.bipush 6, 2) := by decide +kernel
theorem dX0_mark_32 : decode cX0_mark 32 = .ok (.if_icmp .ne 5, 3) := by decide +kernel
theorem dX0_mark_35 : decode cX0_mark 35 = .ok (.iconst (-1), 1) := by decide +kernel
theorem dX0_mark_36 : decode cX0_mark 36 = .ok (.ireturn, 1) := by decide +kernel
theorem dX0_mark_37 : decode cX0_mark 37 = .ok (.aload_n 0, 1) := by decide +kernel
theorem dX0_mark_38 : decode cX0_mark 38 = .ok (.getfield 47, 3) := by decide +kernel
theorem dX0_mark_41 : decode cX0_mark 41 = .ok (.aload_n 0, 1) := by decide +kernel
theorem dX0_mark_42 : decode cX0_mark 42 = .ok (.getfield 186, 3) := by decide +kernel
theorem dX0_mark_45 : decode cX0_mark 45 = .ok (.iload_n 1, 1) := by decide +kernel
theorem dX0_mark_46 : decode cX0_mark 46 = .ok (.iastore, 1) := by decide +kernel
theorem dX0_mark_47 : decode cX0_mark 47 = .ok (.aload_n 0, 1) := by decide +kernel
theorem dX0_mark_48 : decode cX0_mark 48 = .ok (.getfield 50, 3) := by decide +kernel
theorem dX0_mark_51 : decode cX0_mark 51 = .ok (.aload_n 0, 1) := by decide +kernel
theorem dX0_mark_52 : decode cX0_mark 52 = .ok (.getfield 186, 3) := by decide +kernel
theorem dX0_mark_55 : decode cX0_mark 55 = .ok (.iload_n 2, 1) := by decide +kernel
theorem dX0_mark_56 : decode cX0_mark 56 = .ok (.iastore, 1) := by decide +kernel
theorem dX0_mark_57 : decode cX0_mark 57 = .ok (.aload_n 0, 1) := by decide +kernel
theorem dX0_mark_58 : decode cX0_mark 58 = .ok (.dup, 1) := by decide +kernel
theorem dX0_mark_59 : decode cX0_mark 59 = .ok (.getfield 186, 3) := by decide +kernel
theorem dX0_mark_62 : decode cX0_mark 62 = .ok (.iconst 1, 1) := by decide +kernel
theorem dX0_mark_63 : decode cX0_mark 63 = .ok (.iadd, 1) := by decide +kernel
theorem dX0_mark_64 : decode cX0_mark 64 = .ok (.putfield 186, 3) := by decide +kernel
theorem dX0_mark_67 : decode cX0_mark 67 = .ok (.aload_n 0, 1) := by decide +kernel
theorem dX0_mark_68 : decode cX0_mark 68 = .ok (.getfield 186, 3) := by decide +kernel
theorem dX0_mark_71 : decode cX0_mark 71 = .ok (.iconst 1, 1) := by decide +kernel
theorem dX0_mark_72 : decode cX0_mark 72 = .ok (.isub, 1) := by decide +kernel
theorem dX0_mark_73 : decode cX0_mark 73 = .ok (.ireturn, 1) := by decide +kernel
set_option maxHeartbeats 4000000 in
theorem cmark (l : Launch) (adK adV st : Nat → Nat) (D : va_G) (E : Nat → ClassId) (A : Nat → Prop) (ad nv : Nat → Nat) (I : Nat → Int) (F : Nat → Int → Int) (S : Nat → Nat → Int) (Y : Nat → Int → Int) (L : Nat → Nat) (pl : Int) (r_pl : R32 pl) (ht : Int) (r_ht : R32 ht) (gl0 : gMark I F) : CM l yX0_mark cX0_mark 3 (some .int) (mrm 1) adK adV st D E A ad nv [.ref (ad 0), .int (iI pl), .int (iI ht)] I F S Y L (CQi D E A ad nv L (fun z I1 F1 S1 Y1 => (((-19 ≤ pl ∧ pl ≤ 19) ∧ (0 ≤ ht ∧ ht ≤ 40) ∧ I 15 ≠ 6) ∧ I 15 = z ∧ va_up I 15 (I 15 + 1) = I1 ∧ upF (upF F 16 (I 15) pl) 17 (I 15) ht = F1 ∧ S = S1 ∧ Y = Y1) ∨ (¬ ((-19 ≤ pl ∧ pl ≤ 19) ∧ (0 ≤ ht ∧ ht ≤ 40) ∧ I 15 ≠ 6) ∧ -1 = z ∧ I = I1 ∧ F = F1 ∧ S = S1 ∧ Y = Y1))) := by
  refine c_start (by decide) rfl (Nat.le_of_ble_eq_true rfl) ?_
  intro p e R s m args below meth c ls Q hR hQ hCK hml hr hlk hG hS hE hl
  have hx := hCK.1
  have hb := hCK.2.1
  have hown := hCK.2.2.1
  have hts := hCK.2.2.2.1
  have hK := hCK.2.2.2.2
  have hl : lv_has ls 3 [(0, .ref (ad 0)), (1, .int (iI pl)), (2, .int (iI ht))] := hl
  obtain ⟨i15, a16, a17⟩ := id gl0
  refine lv_iload_n hx hb dX0_mark_0 rfl (lv_at hl 1 rfl) ?_
  refine r_i2l hx hb dX0_mark_1 r_pl ?_
  refine r_ldc2 hx hb (-19) hown (hts _ q663) (by decide) dX0_mark_2 ?_
  refine r_ldc2 hx hb 19 hown (hts _ q664) (by decide) dX0_mark_5 ?_
  refine s_calli (j_runS (n := 3) (rest := []) (as := [.long (iL pl), .long (iL (-19)), .long (iL 19)]) hx hb hml hown hts ((cin l pl (-19) 19 (by omega) (by decide) (by decide)).jm) (fun _ _ _ _ _ => trivial) (fun _ _ _ => trivial) q296 q297 q68 q298 (by decide +kernel) ⟨rfl, rfl⟩ hR (by decide) ⟨Nat.zero_le _, Nat.zero_le _⟩ rfl hl.1 rfl (Nat.le_of_ble_eq_true rfl) dX0_mark_8) ?_
  refine r_ifeqB (tgt := 35) hx hb dX0_mark_11 (by decide) (fun c1 => ?_) (fun c1 => ?_)
  · refine r_iconst hx hb dX0_mark_35 ?_
    exact c_iret hCK hQ hr hlk hG hS dX0_mark_36 (Or.inr ⟨by omega, rfl, rfl, rfl, rfl, rfl⟩)
  · refine lv_iload_n hx hb dX0_mark_14 rfl (lv_at hl 2 rfl) ?_
    refine r_i2l hx hb dX0_mark_15 r_ht ?_
    refine r_lconst hx hb 0 dX0_mark_16 (by decide) ?_
    refine r_ldc2 hx hb 40 hown (hts _ q665) (by decide) dX0_mark_17 ?_
    refine s_calli (j_runS (n := 3) (rest := []) (as := [.long (iL ht), .long (iL 0), .long (iL 40)]) hx hb hml hown hts ((cin l ht 0 40 (by omega) (by decide) (by decide)).jm) (fun _ _ _ _ _ => trivial) (fun _ _ _ => trivial) q296 q297 q68 q298 (by decide +kernel) ⟨rfl, rfl⟩ hR (by decide) ⟨Nat.zero_le _, Nat.zero_le _⟩ rfl hl.1 rfl (Nat.le_of_ble_eq_true rfl) dX0_mark_20) ?_
    refine r_ifeqB (tgt := 35) hx hb dX0_mark_23 (by decide) (fun c2 => ?_) (fun c2 => ?_)
    · refine r_iconst hx hb dX0_mark_35 ?_
      exact c_iret hCK hQ hr hlk hG hS dX0_mark_36 (Or.inr ⟨by omega, rfl, rfl, rfl, rfl, rfl⟩)
    · refine lv_aload_n hx hb dX0_mark_26 rfl (lv_at hl 0 rfl) ?_
      refine cg_X0_186 (v := I 15) hCK hG rfl dX0_mark_27 ?_
      refine r_bipush hx hb dX0_mark_30 (by decide) ?_
      refine r_icmp_ne (tgt := 37) hx hb dX0_mark_32 (by decide) (by omega) (by decide) (fun c3 => ?_) (fun c3 => ?_)
      · refine lv_aload_n hx hb dX0_mark_37 rfl (lv_at hl 0 rfl) ?_
        refine cg_X0_47 hCK hG dX0_mark_38 ?_
        refine lv_aload_n hx hb dX0_mark_41 rfl (lv_at hl 0 rfl) ?_
        refine cg_X0_186 (v := I 15) hCK hG rfl dX0_mark_42 ?_
        refine lv_iload_n hx hb dX0_mark_45 rfl (lv_at hl 1 rfl) ?_
        refine cs_4 (z := I 15) (v := pl) hCK hG hS (by omega) dX0_mark_46 (fun H locs hG hS => ?_)
        refine lv_aload_n hx hb dX0_mark_47 rfl (lv_at hl 0 rfl) ?_
        refine cg_X0_50 hCK hG dX0_mark_48 ?_
        refine lv_aload_n hx hb dX0_mark_51 rfl (lv_at hl 0 rfl) ?_
        refine cg_X0_186 (v := I 15) hCK hG rfl dX0_mark_52 ?_
        refine lv_iload_n hx hb dX0_mark_55 rfl (lv_at hl 2 rfl) ?_
        refine cs_5 (z := I 15) (v := ht) hCK hG hS (by omega) dX0_mark_56 (fun H locs hG hS => ?_)
        refine lv_aload_n hx hb dX0_mark_57 rfl (lv_at hl 0 rfl) ?_
        refine lv_dup hx hb dX0_mark_58 rfl ?_
        refine cg_X0_186 (v := I 15) hCK hG rfl dX0_mark_59 ?_
        refine r_iconst hx hb dX0_mark_62 ?_
        refine r_iadd hx hb dX0_mark_63 ?_
        refine cp_X0_186 hCK hG hS dX0_mark_64 (fun H locs hG hS => ?_)
        refine lv_aload_n hx hb dX0_mark_67 rfl (lv_at hl 0 rfl) ?_
        refine cg_X0_186 (v := (I 15) + 1) hCK hG rfl dX0_mark_68 ?_
        refine r_iconst hx hb dX0_mark_71 ?_
        refine r_isub hx hb dX0_mark_72 ?_
        exact c_iret hCK hQ hr hlk hG hS dX0_mark_73 (Or.inl ⟨by omega, by omega, rfl, rfl, rfl, rfl⟩)
      · refine r_iconst hx hb dX0_mark_35 ?_
        exact c_iret hCK hQ hr hlk hG hS dX0_mark_36 (Or.inr ⟨by omega, rfl, rfl, rfl, rfl, rfl⟩)
theorem dX0_hour_0 : decode cX0_hour 0 = .ok (.iload_n 1, 1) := by decide +kernel
theorem dX0_hour_1 : decode cX0_hour 1 = .ok (.i2l, 1) := by decide +kernel
theorem dX0_hour_2 : decode cX0_hour 2 = .ok (.lconst 0, 1) := by decide +kernel
theorem dX0_hour_3 : decode cX0_hour 3 = .ok (.ldc2_w 240, 3) := by decide +kernel
theorem dX0_hour_6 : decode cX0_hour 6 = .ok (.invokestatic 101, 3) := by decide +kernel
theorem dX0_hour_9 : decode cX0_hour 9 = .ok (.ifCond .eq 26, 3) := by decide +kernel
theorem dX0_hour_12 : decode cX0_hour 12 = .ok (.iload_n 2, 1) := by decide +kernel
theorem dX0_hour_13 : decode cX0_hour 13 = .ok (.i2l, 1) := by decide +kernel
theorem dX0_hour_14 : decode cX0_hour 14 = .ok (.ldc2_w 242, 3) := by decide +kernel
theorem dX0_hour_17 : decode cX0_hour 17 = .ok (.ldc2_w 244, 3) := by decide +kernel
theorem dX0_hour_20 : decode cX0_hour 20 = .ok (.invokestatic 101, 3) := by decide +kernel
theorem dX0_hour_23 : decode cX0_hour 23 = .ok (.ifCond .eq 12, 3) := by decide +kernel
theorem dX0_hour_26 : decode cX0_hour 26 = .ok (.aload_n 0, 1) := by decide +kernel
theorem dX0_hour_27 : decode cX0_hour 27 = .ok (.getfield 321, 3) := by decide +kernel
theorem dX0_hour_30 : decode cX0_hour 30 = .ok (.bipush 12, 2) := by decide +kernel
theorem dX0_hour_32 : decode cX0_hour 32 = .ok (.if_icmp .ne 5, 3) := by decide +kernel
theorem dX0_hour_35 : decode cX0_hour 35 = .ok (.iconst (-1), 1) := by decide +kernel
theorem dX0_hour_36 : decode cX0_hour 36 = .ok (.ireturn, 1) := by decide +kernel
theorem dX0_hour_37 : decode cX0_hour 37 = .ok (.aload_n 0, 1) := by decide +kernel
theorem dX0_hour_38 : decode cX0_hour 38 = .ok (.getfield 80, 3) := by decide +kernel
theorem dX0_hour_41 : decode cX0_hour 41 = .ok (.aload_n 0, 1) := by decide +kernel
theorem dX0_hour_42 : decode cX0_hour 42 = .ok (.getfield 321, 3) := by decide +kernel
theorem dX0_hour_45 : decode cX0_hour 45 = .ok (.iload_n 1, 1) := by decide +kernel
theorem dX0_hour_46 : decode cX0_hour 46 = .ok (.iastore, 1) := by decide +kernel
theorem dX0_hour_47 : decode cX0_hour 47 = .ok (.aload_n 0, 1) := by decide +kernel
theorem dX0_hour_48 : decode cX0_hour 48 = .ok (.getfield 83, 3) := by decide +kernel
theorem dX0_hour_51 : decode cX0_hour 51 = .ok (.aload_n 0, 1) := by decide +kernel
theorem dX0_hour_52 : decode cX0_hour 52 = .ok (.getfield 321, 3) := by decide +kernel
theorem dX0_hour_55 : decode cX0_hour 55 = .ok (.iload_n 2, 1) := by decide +kernel
theorem dX0_hour_56 : decode cX0_hour 56 = .ok (.iastore, 1) := by decide +kernel
theorem dX0_hour_57 : decode cX0_hour 57 = .ok (.aload_n 0, 1) := by decide +kernel
theorem dX0_hour_58 : decode cX0_hour 58 = .ok (.dup, 1) := by decide +kernel
theorem dX0_hour_59 : decode cX0_hour 59 = .ok (.getfield 321, 3) := by decide +kernel
theorem dX0_hour_62 : decode cX0_hour 62 = .ok (.iconst 1, 1) := by decide +kernel
theorem dX0_hour_63 : decode cX0_hour 63 = .ok (.iadd, 1) := by decide +kernel
theorem dX0_hour_64 : decode cX0_hour 64 = .ok (.putfield 321, 3) := by decide +kernel
theorem dX0_hour_67 : decode cX0_hour 67 = .ok (.aload_n 0, 1) := by decide +kernel
theorem dX0_hour_68 : decode cX0_hour 68 = .ok (.getfield 321, 3) := by decide +kernel
theorem dX0_hour_71 : decode cX0_hour 71 = .ok (.ireturn, 1) := by decide +kernel
set_option maxHeartbeats 4000000 in
theorem chour (l : Launch) (adK adV st : Nat → Nat) (D : va_G) (E : Nat → ClassId) (A : Nat → Prop) (ad nv : Nat → Nat) (I : Nat → Int) (F : Nat → Int → Int) (S : Nat → Nat → Int) (Y : Nat → Int → Int) (L : Nat → Nat) (ht : Int) (r_ht : R32 ht) (pr : Int) (r_pr : R32 pr) (gl0 : gWay I F) : CM l yX0_hour cX0_hour 3 (some .int) (mrm 1) adK adV st D E A ad nv [.ref (ad 0), .int (iI ht), .int (iI pr)] I F S Y L (CQi D E A ad nv L (fun z I1 F1 S1 Y1 => (((0 ≤ ht ∧ ht ≤ 60) ∧ (4 ≤ pr ∧ pr ≤ 64) ∧ I 41 ≠ 12) ∧ I 41 + 1 = z ∧ va_up I 41 (I 41 + 1) = I1 ∧ upF (upF F 42 (I 41) ht) 43 (I 41) pr = F1 ∧ S = S1 ∧ Y = Y1) ∨ (¬ ((0 ≤ ht ∧ ht ≤ 60) ∧ (4 ≤ pr ∧ pr ≤ 64) ∧ I 41 ≠ 12) ∧ -1 = z ∧ I = I1 ∧ F = F1 ∧ S = S1 ∧ Y = Y1))) := by
  refine c_start (by decide) rfl (Nat.le_of_ble_eq_true rfl) ?_
  intro p e R s m args below meth c ls Q hR hQ hCK hml hr hlk hG hS hE hl
  have hx := hCK.1
  have hb := hCK.2.1
  have hown := hCK.2.2.1
  have hts := hCK.2.2.2.1
  have hK := hCK.2.2.2.2
  have hl : lv_has ls 3 [(0, .ref (ad 0)), (1, .int (iI ht)), (2, .int (iI pr))] := hl
  obtain ⟨i41, i44, a42, a43⟩ := id gl0
  refine lv_iload_n hx hb dX0_hour_0 rfl (lv_at hl 1 rfl) ?_
  refine r_i2l hx hb dX0_hour_1 r_ht ?_
  refine r_lconst hx hb 0 dX0_hour_2 (by decide) ?_
  refine r_ldc2 hx hb 60 hown (hts _ q797) (by decide) dX0_hour_3 ?_
  refine s_calli (j_runS (n := 3) (rest := []) (as := [.long (iL ht), .long (iL 0), .long (iL 60)]) hx hb hml hown hts ((cin l ht 0 60 (by omega) (by decide) (by decide)).jm) (fun _ _ _ _ _ => trivial) (fun _ _ _ => trivial) q296 q297 q68 q298 (by decide +kernel) ⟨rfl, rfl⟩ hR (by decide) ⟨Nat.zero_le _, Nat.zero_le _⟩ rfl hl.1 rfl (Nat.le_of_ble_eq_true rfl) dX0_hour_6) ?_
  refine r_ifeqB (tgt := 35) hx hb dX0_hour_9 (by decide) (fun c1 => ?_) (fun c1 => ?_)
  · refine r_iconst hx hb dX0_hour_35 ?_
    exact c_iret hCK hQ hr hlk hG hS dX0_hour_36 (Or.inr ⟨by omega, rfl, rfl, rfl, rfl, rfl⟩)
  · refine lv_iload_n hx hb dX0_hour_12 rfl (lv_at hl 2 rfl) ?_
    refine r_i2l hx hb dX0_hour_13 r_pr ?_
    refine r_ldc2 hx hb 4 hown (hts _ q798) (by decide) dX0_hour_14 ?_
    refine r_ldc2 hx hb 64 hown (hts _ q799) (by decide) dX0_hour_17 ?_
    refine s_calli (j_runS (n := 3) (rest := []) (as := [.long (iL pr), .long (iL 4), .long (iL 64)]) hx hb hml hown hts ((cin l pr 4 64 (by omega) (by decide) (by decide)).jm) (fun _ _ _ _ _ => trivial) (fun _ _ _ => trivial) q296 q297 q68 q298 (by decide +kernel) ⟨rfl, rfl⟩ hR (by decide) ⟨Nat.zero_le _, Nat.zero_le _⟩ rfl hl.1 rfl (Nat.le_of_ble_eq_true rfl) dX0_hour_20) ?_
    refine r_ifeqB (tgt := 35) hx hb dX0_hour_23 (by decide) (fun c2 => ?_) (fun c2 => ?_)
    · refine r_iconst hx hb dX0_hour_35 ?_
      exact c_iret hCK hQ hr hlk hG hS dX0_hour_36 (Or.inr ⟨by omega, rfl, rfl, rfl, rfl, rfl⟩)
    · refine lv_aload_n hx hb dX0_hour_26 rfl (lv_at hl 0 rfl) ?_
      refine cg_X0_321 (v := I 41) hCK hG rfl dX0_hour_27 ?_
      refine r_bipush hx hb dX0_hour_30 (by decide) ?_
      refine r_icmp_ne (tgt := 37) hx hb dX0_hour_32 (by decide) (by omega) (by decide) (fun c3 => ?_) (fun c3 => ?_)
      · refine lv_aload_n hx hb dX0_hour_37 rfl (lv_at hl 0 rfl) ?_
        refine cg_X0_80 hCK hG dX0_hour_38 ?_
        refine lv_aload_n hx hb dX0_hour_41 rfl (lv_at hl 0 rfl) ?_
        refine cg_X0_321 (v := I 41) hCK hG rfl dX0_hour_42 ?_
        refine lv_iload_n hx hb dX0_hour_45 rfl (lv_at hl 1 rfl) ?_
        refine cs_6 (z := I 41) (v := ht) hCK hG hS (by omega) dX0_hour_46 (fun H locs hG hS => ?_)
        refine lv_aload_n hx hb dX0_hour_47 rfl (lv_at hl 0 rfl) ?_
        refine cg_X0_83 hCK hG dX0_hour_48 ?_
        refine lv_aload_n hx hb dX0_hour_51 rfl (lv_at hl 0 rfl) ?_
        refine cg_X0_321 (v := I 41) hCK hG rfl dX0_hour_52 ?_
        refine lv_iload_n hx hb dX0_hour_55 rfl (lv_at hl 2 rfl) ?_
        refine cs_7 (z := I 41) (v := pr) hCK hG hS (by omega) dX0_hour_56 (fun H locs hG hS => ?_)
        refine lv_aload_n hx hb dX0_hour_57 rfl (lv_at hl 0 rfl) ?_
        refine lv_dup hx hb dX0_hour_58 rfl ?_
        refine cg_X0_321 (v := I 41) hCK hG rfl dX0_hour_59 ?_
        refine r_iconst hx hb dX0_hour_62 ?_
        refine r_iadd hx hb dX0_hour_63 ?_
        refine cp_X0_321 hCK hG hS dX0_hour_64 (fun H locs hG hS => ?_)
        refine lv_aload_n hx hb dX0_hour_67 rfl (lv_at hl 0 rfl) ?_
        refine cg_X0_321 (v := (I 41) + 1) hCK hG rfl dX0_hour_68 ?_
        exact c_iret hCK hQ hr hlk hG hS dX0_hour_71 (Or.inl ⟨by omega, by omega, rfl, rfl, rfl, rfl⟩)
      · refine r_iconst hx hb dX0_hour_35 ?_
        exact c_iret hCK hQ hr hlk hG hS dX0_hour_36 (Or.inr ⟨by omega, rfl, rfl, rfl, rfl, rfl⟩)
theorem dX0_record_0 : decode cX0_record 0 = .ok (.iload_n 1, 1) := by decide +kernel
theorem dX0_record_1 : decode cX0_record 1 = .ok (.i2l, 1) := by decide +kernel
theorem dX0_record_2 : decode cX0_record 2 = .ok (.ldc2_w 220, 3) := by decide +kernel
theorem dX0_record_5 : decode cX0_record 5 = .ok (.ldc2_w 149, 3) := by decide +kernel
theorem dX0_record_8 : decode cX0_record 8 = .ok (.invokestatic 101, 3) := by decide +kernel
theorem dX0_record_11 : decode cX0_record 11 = .ok (.ifCond .eq 12, 3) := by decide +kernel
theorem dX0_record_14 : decode cX0_record 14 = .ok (.aload_n 0, 1) := by decide +kernel
theorem dX0_record_15 : decode cX0_record 15 = .ok (.getfield 335, 3) := by decide +kernel
theorem dX0_record_18 : decode cX0_record 18 = .ok (.bipush 64, 2) := by decide +kernel
theorem dX0_record_20 : decode cX0_record 20 = .ok (.if_icmp .ne 5, 3) := by decide +kernel
theorem dX0_record_23 : decode cX0_record 23 = .ok (.iconst (-1), 1) := by decide +kernel
theorem dX0_record_24 : decode cX0_record 24 = .ok (.ireturn, 1) := by decide +kernel
theorem dX0_record_25 : decode cX0_record 25 = .ok (.aload_n 0, 1) := by decide +kernel
theorem dX0_record_26 : decode cX0_record 26 = .ok (.getfield 92, 3) := by decide +kernel
theorem dX0_record_29 : decode cX0_record 29 = .ok (.aload_n 0, 1) := by decide +kernel
theorem dX0_record_30 : decode cX0_record 30 = .ok (.getfield 335, 3) := by decide +kernel
theorem dX0_record_33 : decode cX0_record 33 = .ok (.iload_n 1, 1) := by decide +kernel
theorem dX0_record_34 : decode cX0_record 34 = .ok (.iastore, 1) := by decide +kernel
theorem dX0_record_35 : decode cX0_record 35 = .ok (.aload_n 0, 1) := by decide +kernel
theorem dX0_record_36 : decode cX0_record 36 = .ok (.dup, 1) := by decide +kernel
theorem dX0_record_37 : decode cX0_record 37 = .ok (.getfield 335, 3) := by decide +kernel
theorem dX0_record_40 : decode cX0_record 40 = .ok (.iconst 1, 1) := by decide +kernel
theorem dX0_record_41 : decode cX0_record 41 = .ok (.iadd, 1) := by decide +kernel
theorem dX0_record_42 : decode cX0_record 42 = .ok (.putfield 335, 3) := by decide +kernel
theorem dX0_record_45 : decode cX0_record 45 = .ok (.aload_n 0, 1) := by decide +kernel
theorem dX0_record_46 : decode cX0_record 46 = .ok (.getfield 335, 3) := by decide +kernel
theorem dX0_record_49 : decode cX0_record 49 = .ok (.ireturn, 1) := by decide +kernel
set_option maxHeartbeats 4000000 in
theorem crecord (l : Launch) (adK adV st : Nat → Nat) (D : va_G) (E : Nat → ClassId) (A : Nat → Prop) (ad nv : Nat → Nat) (I : Nat → Int) (F : Nat → Int → Int) (S : Nat → Nat → Int) (Y : Nat → Int → Int) (L : Nat → Nat) (sl : Int) (r_sl : R32 sl) (gl0 : gRec I F) : CM l yX0_record cX0_record 2 (some .int) (mrm 1) adK adV st D E A ad nv [.ref (ad 0), .int (iI sl)] I F S Y L (CQi D E A ad nv L (fun z I1 F1 S1 Y1 => (((-80 ≤ sl ∧ sl ≤ 80) ∧ I 45 ≠ 64) ∧ I 45 + 1 = z ∧ va_up I 45 (I 45 + 1) = I1 ∧ upF F 46 (I 45) sl = F1 ∧ S = S1 ∧ Y = Y1) ∨ (¬ ((-80 ≤ sl ∧ sl ≤ 80) ∧ I 45 ≠ 64) ∧ -1 = z ∧ I = I1 ∧ F = F1 ∧ S = S1 ∧ Y = Y1))) := by
  refine c_start (by decide) rfl (Nat.le_of_ble_eq_true rfl) ?_
  intro p e R s m args below meth c ls Q hR hQ hCK hml hr hlk hG hS hE hl
  have hx := hCK.1
  have hb := hCK.2.1
  have hown := hCK.2.2.1
  have hts := hCK.2.2.2.1
  have hK := hCK.2.2.2.2
  have hl : lv_has ls 2 [(0, .ref (ad 0)), (1, .int (iI sl))] := hl
  obtain ⟨i45, a46⟩ := id gl0
  refine lv_iload_n hx hb dX0_record_0 rfl (lv_at hl 1 rfl) ?_
  refine r_i2l hx hb dX0_record_1 r_sl ?_
  refine r_ldc2 hx hb (-80) hown (hts _ q744) (by decide) dX0_record_2 ?_
  refine r_ldc2 hx hb 80 hown (hts _ q667) (by decide) dX0_record_5 ?_
  refine s_calli (j_runS (n := 3) (rest := []) (as := [.long (iL sl), .long (iL (-80)), .long (iL 80)]) hx hb hml hown hts ((cin l sl (-80) 80 (by omega) (by decide) (by decide)).jm) (fun _ _ _ _ _ => trivial) (fun _ _ _ => trivial) q296 q297 q68 q298 (by decide +kernel) ⟨rfl, rfl⟩ hR (by decide) ⟨Nat.zero_le _, Nat.zero_le _⟩ rfl hl.1 rfl (Nat.le_of_ble_eq_true rfl) dX0_record_8) ?_
  refine r_ifeqB (tgt := 23) hx hb dX0_record_11 (by decide) (fun c1 => ?_) (fun c1 => ?_)
  · refine r_iconst hx hb dX0_record_23 ?_
    exact c_iret hCK hQ hr hlk hG hS dX0_record_24 (Or.inr ⟨by omega, rfl, rfl, rfl, rfl, rfl⟩)
  · refine lv_aload_n hx hb dX0_record_14 rfl (lv_at hl 0 rfl) ?_
    refine cg_X0_335 (v := I 45) hCK hG rfl dX0_record_15 ?_
    refine r_bipush hx hb dX0_record_18 (by decide) ?_
    refine r_icmp_ne (tgt := 25) hx hb dX0_record_20 (by decide) (by omega) (by decide) (fun c2 => ?_) (fun c2 => ?_)
    · refine lv_aload_n hx hb dX0_record_25 rfl (lv_at hl 0 rfl) ?_
      refine cg_X0_92 hCK hG dX0_record_26 ?_
      refine lv_aload_n hx hb dX0_record_29 rfl (lv_at hl 0 rfl) ?_
      refine cg_X0_335 (v := I 45) hCK hG rfl dX0_record_30 ?_
      refine lv_iload_n hx hb dX0_record_33 rfl (lv_at hl 1 rfl) ?_
      refine cs_8 (z := I 45) (v := sl) hCK hG hS (by omega) dX0_record_34 (fun H locs hG hS => ?_)
      refine lv_aload_n hx hb dX0_record_35 rfl (lv_at hl 0 rfl) ?_
      refine lv_dup hx hb dX0_record_36 rfl ?_
      refine cg_X0_335 (v := I 45) hCK hG rfl dX0_record_37 ?_
      refine r_iconst hx hb dX0_record_40 ?_
      refine r_iadd hx hb dX0_record_41 ?_
      refine cp_X0_335 hCK hG hS dX0_record_42 (fun H locs hG hS => ?_)
      refine lv_aload_n hx hb dX0_record_45 rfl (lv_at hl 0 rfl) ?_
      refine cg_X0_335 (v := (I 45) + 1) hCK hG rfl dX0_record_46 ?_
      exact c_iret hCK hQ hr hlk hG hS dX0_record_49 (Or.inl ⟨by omega, by omega, rfl, rfl, rfl, rfl⟩)
    · refine r_iconst hx hb dX0_record_23 ?_
      exact c_iret hCK hQ hr hlk hG hS dX0_record_24 (Or.inr ⟨by omega, rfl, rfl, rfl, rfl, rfl⟩)
theorem dX0_begin_0 : decode cX0_begin 0 = .ok (.iload_n 1, 1) := by decide +kernel
theorem dX0_begin_1 : decode cX0_begin 1 = .ok (.i2l, 1) := by decide +kernel
theorem dX0_begin_2 : decode cX0_begin 2 = .ok (.ldc2_w 242, 3) := by decide +kernel
theorem dX0_begin_5 : decode cX0_begin 5 = .ok (.ldc2_w 244, 3) := by decide +kernel
theorem dX0_begin_8 : decode cX0_begin 8 = .ok (.invokestatic 101, 3) := by decide +kernel
theorem dX0_begin_11 : decode cX0_begin 11 = .ok (.ifCond .ne 5, 3) := by decide +kernel
theorem dX0_begin_14 : decode cX0_begin 14 = .ok (.iconst (-1), 1) := by decide +kernel
theorem dX0_begin_15 : decode cX0_begin 15 = .ok (.ireturn, 1) := by decide +kernel
theorem dX0_begin_16 : decode cX0_begin 16 = .ok (.aload_n 0, 1) := by decide +kernel
theorem dX0_begin_17 : decode cX0_begin 17 = .ok (.getfield 321, 3) := by decide +kernel
theorem dX0_begin_20 : decode cX0_begin 20 = .ok (.istore_n 2, 1) := by decide +kernel
theorem dX0_begin_21 : decode cX0_begin 21 = .ok (.aload_n 0, 1) := by decide +kernel
theorem dX0_begin_22 : decode cX0_begin 22 = .ok (.iconst 0, 1) := by decide +kernel
theorem dX0_begin_23 : decode cX0_begin 23 = .ok (.putfield 321, 3) := by decide +kernel
theorem dX0_begin_26 : decode cX0_begin 26 = .ok (.aload_n 0, 1) := by decide +kernel
theorem dX0_begin_27 : decode cX0_begin 27 = .ok (.iload_n 1, 1) := by decide +kernel
theorem dX0_begin_28 : decode cX0_begin 28 = .ok (.putfield 89, 3) := by decide +kernel
theorem dX0_begin_31 : decode cX0_begin 31 = .ok (.iload_n 2, 1) := by decide +kernel
theorem dX0_begin_32 : decode cX0_begin 32 = .ok (.ireturn, 1) := by decide +kernel
set_option maxHeartbeats 4000000 in
theorem cbegin (l : Launch) (adK adV st : Nat → Nat) (D : va_G) (E : Nat → ClassId) (A : Nat → Prop) (ad nv : Nat → Nat) (I : Nat → Int) (F : Nat → Int → Int) (S : Nat → Nat → Int) (Y : Nat → Int → Int) (L : Nat → Nat) (ow : Int) (r_ow : R32 ow) (gl0 : gWay I F) : CM l yX0_begin cX0_begin 3 (some .int) (mrm 1) adK adV st D E A ad nv [.ref (ad 0), .int (iI ow)] I F S Y L (CQi D E A ad nv L (fun z I1 F1 S1 Y1 => (((4 ≤ ow ∧ ow ≤ 64)) ∧ I 41 = z ∧ va_up (va_up I 41 0) 44 ow = I1 ∧ F = F1 ∧ S = S1 ∧ Y = Y1) ∨ (¬ ((4 ≤ ow ∧ ow ≤ 64)) ∧ -1 = z ∧ I = I1 ∧ F = F1 ∧ S = S1 ∧ Y = Y1))) := by
  refine c_start (by decide) rfl (Nat.le_of_ble_eq_true rfl) ?_
  intro p e R s m args below meth c ls Q hR hQ hCK hml hr hlk hG hS hE hl
  have hx := hCK.1
  have hb := hCK.2.1
  have hown := hCK.2.2.1
  have hts := hCK.2.2.2.1
  have hK := hCK.2.2.2.2
  have hl : lv_has ls 3 [(0, .ref (ad 0)), (1, .int (iI ow))] := hl
  obtain ⟨i41, i44, a42, a43⟩ := id gl0
  refine lv_iload_n hx hb dX0_begin_0 rfl (lv_at hl 1 rfl) ?_
  refine r_i2l hx hb dX0_begin_1 r_ow ?_
  refine r_ldc2 hx hb 4 hown (hts _ q798) (by decide) dX0_begin_2 ?_
  refine r_ldc2 hx hb 64 hown (hts _ q799) (by decide) dX0_begin_5 ?_
  refine s_calli (j_runS (n := 3) (rest := []) (as := [.long (iL ow), .long (iL 4), .long (iL 64)]) hx hb hml hown hts ((cin l ow 4 64 (by omega) (by decide) (by decide)).jm) (fun _ _ _ _ _ => trivial) (fun _ _ _ => trivial) q296 q297 q68 q298 (by decide +kernel) ⟨rfl, rfl⟩ hR (by decide) ⟨Nat.zero_le _, Nat.zero_le _⟩ rfl hl.1 rfl (Nat.le_of_ble_eq_true rfl) dX0_begin_8) ?_
  refine r_ifneB (tgt := 16) hx hb dX0_begin_11 (by decide) (fun c1 => ?_) (fun c1 => ?_)
  · refine lv_aload_n hx hb dX0_begin_16 rfl (lv_at hl 0 rfl) ?_
    refine cg_X0_321 (v := I 41) hCK hG rfl dX0_begin_17 ?_
    refine lv_istore_n (lv' := [(2, .int (iI (I 41))), (0, .ref (ad 0)), (1, .int (iI ow))]) hx hb dX0_begin_20 rfl hl (by decide) rfl (fun ls hl => ?_)
    refine lv_aload_n hx hb dX0_begin_21 rfl (lv_at hl 1 rfl) ?_
    refine r_iconst hx hb dX0_begin_22 ?_
    refine cp_X0_321 hCK hG hS dX0_begin_23 (fun H locs hG hS => ?_)
    refine lv_aload_n hx hb dX0_begin_26 rfl (lv_at hl 1 rfl) ?_
    refine lv_iload_n hx hb dX0_begin_27 rfl (lv_at hl 2 rfl) ?_
    refine cp_X0_89 hCK hG hS dX0_begin_28 (fun H locs hG hS => ?_)
    refine lv_iload_n hx hb dX0_begin_31 rfl (lv_at hl 0 rfl) ?_
    exact c_iret hCK hQ hr hlk hG hS dX0_begin_32 (Or.inl ⟨by omega, by omega, rfl, rfl, rfl, rfl⟩)
  · refine r_iconst hx hb dX0_begin_14 ?_
    exact c_iret hCK hQ hr hlk hG hS dX0_begin_15 (Or.inr ⟨by omega, rfl, rfl, rfl, rfl, rfl⟩)
theorem dX0_end_0 : decode cX0_end 0 = .ok (.iload_n 1, 1) := by decide +kernel
theorem dX0_end_1 : decode cX0_end 1 = .ok (.i2l, 1) := by decide +kernel
theorem dX0_end_2 : decode cX0_end 2 = .ok (.lconst 0, 1) := by decide +kernel
theorem dX0_end_3 : decode cX0_end 3 = .ok (.aload_n 0, 1) := by decide +kernel
theorem dX0_end_4 : decode cX0_end 4 = .ok (.getfield 95, 3) := by decide +kernel
theorem dX0_end_7 : decode cX0_end 7 = .ok (.i2l, 1) := by decide +kernel
theorem dX0_end_8 : decode cX0_end 8 = .ok (.invokestatic 101, 3) := by decide +kernel
theorem dX0_end_11 : decode cX0_end 11 = .ok (.ifCond .ne 5, 3) := by decide +kernel
theorem dX0_end_14 : decode cX0_end 14 = .ok (.iconst 0, 1) := by decide +kernel
theorem dX0_end_15 : decode cX0_end 15 = .ok (.ireturn, 1) := by decide +kernel
theorem dX0_end_16 : decode cX0_end 16 = .ok (.aload_n 0, 1) := by decide +kernel
theorem dX0_end_17 : decode cX0_end 17 = .ok (.iload_n 1, 1) := by decide +kernel
theorem dX0_end_18 : decode cX0_end 18 = .ok (.putfield 95, 3) := by decide +kernel
theorem dX0_end_21 : decode cX0_end 21 = .ok (.iconst 1, 1) := by decide +kernel
theorem dX0_end_22 : decode cX0_end 22 = .ok (.ireturn, 1) := by decide +kernel
set_option maxHeartbeats 4000000 in
theorem cend (l : Launch) (adK adV st : Nat → Nat) (D : va_G) (E : Nat → ClassId) (A : Nat → Prop) (ad nv : Nat → Nat) (I : Nat → Int) (F : Nat → Int → Int) (S : Nat → Nat → Int) (Y : Nat → Int → Int) (L : Nat → Nat) (n : Int) (r_n : R32 n) (gl0 : gTxt I F) : CM l yX0_end cX0_end 2 (some .boolean) (mrm 1) adK adV st D E A ad nv [.ref (ad 0), .int (iI n)] I F S Y L (CQi D E A ad nv L (fun z I1 F1 S1 Y1 => (((0 ≤ n ∧ n ≤ I 48)) ∧ 1 = z ∧ va_up I 48 n = I1 ∧ F = F1 ∧ S = S1 ∧ Y = Y1) ∨ (¬ ((0 ≤ n ∧ n ≤ I 48)) ∧ 0 = z ∧ I = I1 ∧ F = F1 ∧ S = S1 ∧ Y = Y1))) := by
  refine c_start (by decide) rfl (Nat.le_of_ble_eq_true rfl) ?_
  intro p e R s m args below meth c ls Q hR hQ hCK hml hr hlk hG hS hE hl
  have hx := hCK.1
  have hb := hCK.2.1
  have hown := hCK.2.2.1
  have hts := hCK.2.2.2.1
  have hK := hCK.2.2.2.2
  have hl : lv_has ls 2 [(0, .ref (ad 0)), (1, .int (iI n))] := hl
  obtain ⟨i48, a47⟩ := id gl0
  refine lv_iload_n hx hb dX0_end_0 rfl (lv_at hl 1 rfl) ?_
  refine r_i2l hx hb dX0_end_1 r_n ?_
  refine r_lconst hx hb 0 dX0_end_2 (by decide) ?_
  refine lv_aload_n hx hb dX0_end_3 rfl (lv_at hl 0 rfl) ?_
  refine cg_X0_95 (v := I 48) hCK hG rfl dX0_end_4 ?_
  refine r_i2l hx hb dX0_end_7 (by omega) ?_
  refine s_calli (j_runS (n := 3) (rest := []) (as := [.long (iL n), .long (iL 0), .long (iL (I 48))]) hx hb hml hown hts ((cin l n 0 (I 48) (by omega) (by decide) (by omega)).jm) (fun _ _ _ _ _ => trivial) (fun _ _ _ => trivial) q296 q297 q68 q298 (by decide +kernel) ⟨rfl, rfl⟩ hR (by decide) ⟨Nat.zero_le _, Nat.zero_le _⟩ rfl hl.1 rfl (Nat.le_of_ble_eq_true rfl) dX0_end_8) ?_
  refine r_ifneB (tgt := 16) hx hb dX0_end_11 (by decide) (fun c1 => ?_) (fun c1 => ?_)
  · refine lv_aload_n hx hb dX0_end_16 rfl (lv_at hl 0 rfl) ?_
    refine lv_iload_n hx hb dX0_end_17 rfl (lv_at hl 1 rfl) ?_
    refine cp_X0_95 hCK hG hS dX0_end_18 (fun H locs hG hS => ?_)
    refine r_iconst hx hb dX0_end_21 ?_
    exact c_zret hCK hQ hr hlk hG hS (by decide) dX0_end_22 (Or.inl ⟨by omega, by omega, rfl, rfl, rfl, rfl⟩)
  · refine r_iconst hx hb dX0_end_14 ?_
    exact c_zret hCK hQ hr hlk hG hS (by decide) dX0_end_15 (Or.inr ⟨by omega, rfl, rfl, rfl, rfl, rfl⟩)
theorem dX0_fill_0 : decode cX0_fill 0 = .ok (.iload_n 1, 1) := by decide +kernel
theorem dX0_fill_1 : decode cX0_fill 1 = .ok (.i2l, 1) := by decide +kernel
theorem dX0_fill_2 : decode cX0_fill 2 = .ok (.lconst 0, 1) := by decide +kernel
theorem dX0_fill_3 : decode cX0_fill 3 = .ok (.aload_n 0, 1) := by decide +kernel
theorem dX0_fill_4 : decode cX0_fill 4 = .ok (.getfield 41, 3) := by decide +kernel
theorem dX0_fill_7 : decode cX0_fill 7 = .ok (.invokevirtual 125, 3) := by decide +kernel
theorem dX0_fill_10 : decode cX0_fill 10 = .ok (.iconst 1, 1) := by decide +kernel
theorem dX0_fill_11 : decode cX0_fill 11 = .ok (.isub, 1) := by decide +kernel
theorem dX0_fill_12 : decode cX0_fill 12 = .ok (.i2l, 1) := by decide +kernel
theorem dX0_fill_13 : decode cX0_fill 13 = .ok (.invokestatic 101, 3) := by decide +kernel
theorem dX0_fill_16 : decode cX0_fill 16 = .ok (.ifCond .eq 27, 3) := by decide +kernel
theorem dX0_fill_19 : decode cX0_fill 19 = .ok (.iload_n 2, 1) := by decide +kernel
theorem dX0_fill_20 : decode cX0_fill 20 = .ok (.i2l, 1) := by decide +kernel
theorem dX0_fill_21 : decode cX0_fill 21 = .ok (.lconst 0, 1) := by decide +kernel
theorem dX0_fill_22 : decode cX0_fill 22 = .ok (.aload_n 0, 1) := by decide +kernel
theorem dX0_fill_23 : decode cX0_fill 23 = .ok (.getfield 41, 3) := by decide +kernel
theorem dX0_fill_26 : decode cX0_fill 26 = .ok (.iload_n 1, 1) := by decide +kernel
theorem dX0_fill_27 : decode cX0_fill 27 = .ok (.invokevirtual 159, 3) := by decide +kernel
theorem dX0_fill_30 : decode cX0_fill 30 = .ok (.checkcast 175, 3) := by decide +kernel
theorem dX0_fill_33 : decode cX0_fill 33 = .ok (.getfield 180, 3) := by decide +kernel
theorem dX0_fill_36 : decode cX0_fill 36 = .ok (.i2l, 1) := by decide +kernel
theorem dX0_fill_37 : decode cX0_fill 37 = .ok (.invokestatic 101, 3) := by decide +kernel
theorem dX0_fill_40 : decode cX0_fill 40 = .ok (.ifCond .ne 5, 3) := by decide +kernel
theorem dX0_fill_43 : decode cX0_fill 43 = .ok (.iconst 0, 1) := by decide +kernel
theorem dX0_fill_44 : decode cX0_fill 44 = .ok (.ireturn, 1) := by decide +kernel
theorem dX0_fill_45 : decode cX0_fill 45 = .ok (.aload_n 0, 1) := by decide +kernel
theorem dX0_fill_46 : decode cX0_fill 46 = .ok (.getfield 41, 3) := by decide +kernel
theorem dX0_fill_49 : decode cX0_fill 49 = .ok (.iload_n 1, 1) := by decide +kernel
theorem dX0_fill_50 : decode cX0_fill 50 = .ok (.invokevirtual 159, 3) := by decide +kernel
theorem dX0_fill_53 : decode cX0_fill 53 = .ok (.checkcast 175, 3) := by decide +kernel
theorem dX0_fill_56 : decode cX0_fill 56 = .ok (.iload_n 2, 1) := by decide +kernel
theorem dX0_fill_57 : decode cX0_fill 57 = .ok (.putfield 183, 3) := by decide +kernel
theorem dX0_fill_60 : decode cX0_fill 60 = .ok (.iconst 1, 1) := by decide +kernel
theorem dX0_fill_61 : decode cX0_fill 61 = .ok (.ireturn, 1) := by decide +kernel
set_option maxHeartbeats 4000000 in
theorem cfill (l : Launch) (adK adV st : Nat → Nat) (D : va_G) (E : Nat → ClassId) (A : Nat → Prop) (ad nv : Nat → Nat) (I : Nat → Int) (F : Nat → Int → Int) (S : Nat → Nat → Int) (Y : Nat → Int → Int) (L : Nat → Nat) (tk : Int) (r_tk : R32 tk) (hs : Int) (r_hs : R32 hs) (hn : cOK nv I L) (gl0 : gLoad I F) : CM l yX0_fill cX0_fill 3 (some .boolean) (mrm 3) adK adV st D E A ad nv [.ref (ad 0), .int (iI tk), .int (iI hs)] I F S Y L (CQi D E A ad nv L (fun z I1 F1 S1 Y1 => (((0 ≤ tk ∧ tk < I 10) ∧ (0 ≤ hs ∧ hs ≤ F 13 tk)) ∧ 1 = z ∧ I = I1 ∧ upF F 14 tk hs = F1 ∧ S = S1 ∧ Y = Y1) ∨ (¬ ((0 ≤ tk ∧ tk < I 10) ∧ (0 ≤ hs ∧ hs ≤ F 13 tk)) ∧ 0 = z ∧ I = I1 ∧ F = F1 ∧ S = S1 ∧ Y = Y1))) := by
  refine c_start (by decide) rfl (Nat.le_of_ble_eq_true rfl) ?_
  intro p e R s m args below meth c ls Q hR hQ hCK hml hr hlk hG hS hE hl
  have hx := hCK.1
  have hb := hCK.2.1
  have hown := hCK.2.2.1
  have hts := hCK.2.2.2.1
  have hK := hCK.2.2.2.2
  have hl : lv_has ls 3 [(0, .ref (ad 0)), (1, .int (iI tk)), (2, .int (iI hs))] := hl
  obtain ⟨i4, a5, a6, a7, a8, a9, i10, a11, a12, a13, a14, a14h⟩ := id gl0
  obtain ⟨⟨n0, n1, n2, n3⟩, ⟨l0, l1, l2, l3⟩, c0, c1, c2, c3⟩ := id hn
  refine lv_iload_n hx hb dX0_fill_0 rfl (lv_at hl 1 rfl) ?_
  refine r_i2l hx hb dX0_fill_1 r_tk ?_
  refine r_lconst hx hb 0 dX0_fill_2 (by decide) ?_
  refine lv_aload_n hx hb dX0_fill_3 rfl (lv_at hl 0 rfl) ?_
  refine cg_X0_41 hCK hG dX0_fill_4 ?_
  refine s_calli (j_runV (n := 0) (C := RJ2) (b := ad 13) (rest := [.long (iL 0), .long (iL tk)]) (as := []) hx hb hml hown hts (lsz_13 l adK adV st D E A ad nv I F S Y L) GB.blind (GB.at hK hG hE hS) (g_rec (r := 13) (ci := 10) hK hG (Or.inl (by decide)) rfl (cC_l (by decide))) q641 q614 q615 q71 q616 (by decide +kernel) ⟨rfl, rfl⟩ hR (by decide) ⟨Nat.zero_le _, Nat.zero_le _⟩ rfl hl.1 rfl (Nat.le_of_ble_eq_true rfl) dX0_fill_7) ?_
  refine r_iconst hx hb dX0_fill_10 ?_
  refine r_isub hx hb dX0_fill_11 ?_
  refine r_i2l hx hb dX0_fill_12 (by omega) ?_
  refine s_calli (j_runS (n := 3) (rest := []) (as := [.long (iL tk), .long (iL 0), .long (iL ((I 10) - 1))]) hx hb hml hown hts ((cin l tk 0 ((I 10) - 1) (by omega) (by decide) (by omega)).jm) (fun _ _ _ _ _ => trivial) (fun _ _ _ => trivial) q296 q297 q68 q298 (by decide +kernel) ⟨rfl, rfl⟩ hR (by decide) ⟨Nat.zero_le _, Nat.zero_le _⟩ rfl hl.1 rfl (Nat.le_of_ble_eq_true rfl) dX0_fill_13) ?_
  refine r_ifeqB (tgt := 43) hx hb dX0_fill_16 (by decide) (fun c1 => ?_) (fun c1 => ?_)
  · refine r_iconst hx hb dX0_fill_43 ?_
    exact c_zret hCK hQ hr hlk hG hS (by decide) dX0_fill_44 (Or.inr ⟨by omega, rfl, rfl, rfl, rfl, rfl⟩)
  · refine lv_iload_n hx hb dX0_fill_19 rfl (lv_at hl 2 rfl) ?_
    refine r_i2l hx hb dX0_fill_20 r_hs ?_
    refine r_lconst hx hb 0 dX0_fill_21 (by decide) ?_
    refine lv_aload_n hx hb dX0_fill_22 rfl (lv_at hl 0 rfl) ?_
    refine cg_X0_41 hCK hG dX0_fill_23 ?_
    refine lv_iload_n hx hb dX0_fill_26 rfl (lv_at hl 1 rfl) ?_
    refine j_callr (j_runV (n := 1) (C := RJ2) (b := ad 13) (rest := [.long (iL 0), .long (iL hs)]) (as := [.int (iI tk)]) hx hb hml hown hts (lgt_13 l adK adV st D E A ad nv I F S Y L tk (by omega) (by omega) (by omega)) GB.blind (GB.at hK hG hE hS) (g_rec (r := 13) (ci := 10) hK hG (Or.inl (by decide)) rfl (cC_l (by decide))) q703 q620 q621 q71 q622 (by decide +kernel) ⟨rfl, rfl⟩ hR (by decide) ⟨Nat.zero_le _, Nat.zero_le _⟩ rfl hl.1 rfl (Nat.le_of_ble_eq_true rfl) dX0_fill_27) ?_
    refine c_cast (r := 3300 + tk.toNat) (ci := 5) hCK hG (by have := (show (0 : Int) ≤ tk ∧ tk < 100 by omega); unfold cV; omega) rfl (cC_tk (by have := (show (0 : Int) ≤ tk ∧ tk < 100 by omega); omega)) q710 dX0_fill_30 ?_
    have b13 := a13 tk (by omega) (by omega)
    refine cg_X0_180 (v := F 13 tk) (z := tk) hCK hE hG (by omega) rfl dX0_fill_33 ?_
    refine r_i2l hx hb dX0_fill_36 (by omega) ?_
    refine s_calli (j_runS (n := 3) (rest := []) (as := [.long (iL hs), .long (iL 0), .long (iL (F 13 tk))]) hx hb hml hown hts ((cin l hs 0 (F 13 tk) (by omega) (by decide) (by omega)).jm) (fun _ _ _ _ _ => trivial) (fun _ _ _ => trivial) q296 q297 q68 q298 (by decide +kernel) ⟨rfl, rfl⟩ hR (by decide) ⟨Nat.zero_le _, Nat.zero_le _⟩ rfl hl.1 rfl (Nat.le_of_ble_eq_true rfl) dX0_fill_37) ?_
    refine r_ifneB (tgt := 45) hx hb dX0_fill_40 (by decide) (fun c2 => ?_) (fun c2 => ?_)
    · refine lv_aload_n hx hb dX0_fill_45 rfl (lv_at hl 0 rfl) ?_
      refine cg_X0_41 hCK hG dX0_fill_46 ?_
      refine lv_iload_n hx hb dX0_fill_49 rfl (lv_at hl 1 rfl) ?_
      refine j_callr (j_runV (n := 1) (C := RJ2) (b := ad 13) (rest := []) (as := [.int (iI tk)]) hx hb hml hown hts (lgt_13 l adK adV st D E A ad nv I F S Y L tk (by omega) (by omega) (by omega)) GB.blind (GB.at hK hG hE hS) (g_rec (r := 13) (ci := 10) hK hG (Or.inl (by decide)) rfl (cC_l (by decide))) q703 q620 q621 q71 q622 (by decide +kernel) ⟨rfl, rfl⟩ hR (by decide) ⟨Nat.zero_le _, Nat.zero_le _⟩ rfl hl.1 rfl (Nat.le_of_ble_eq_true rfl) dX0_fill_50) ?_
      refine c_cast (r := 3300 + tk.toNat) (ci := 5) hCK hG (by have := (show (0 : Int) ≤ tk ∧ tk < 100 by omega); unfold cV; omega) rfl (cC_tk (by have := (show (0 : Int) ≤ tk ∧ tk < 100 by omega); omega)) q710 dX0_fill_53 ?_
      refine lv_iload_n hx hb dX0_fill_56 rfl (lv_at hl 2 rfl) ?_
      refine cp_X0_183 (z := tk) hCK hE hG hS (by omega) dX0_fill_57 (fun H locs hG hS => ?_)
      refine r_iconst hx hb dX0_fill_60 ?_
      exact c_zret hCK hQ hr hlk hG hS (by decide) dX0_fill_61 (Or.inl ⟨by omega, by omega, rfl, rfl, rfl, rfl⟩)
    · refine r_iconst hx hb dX0_fill_43 ?_
      exact c_zret hCK hQ hr hlk hG hS (by decide) dX0_fill_44 (Or.inr ⟨by omega, rfl, rfl, rfl, rfl, rfl⟩)
theorem dX0_clear_0 : decode cX0_clear 0 = .ok (.aload_n 0, 1) := by decide +kernel
theorem dX0_clear_1 : decode cX0_clear 1 = .ok (.getfield 335, 3) := by decide +kernel
theorem dX0_clear_4 : decode cX0_clear 4 = .ok (.istore_n 1, 1) := by decide +kernel
theorem dX0_clear_5 : decode cX0_clear 5 = .ok (.aload_n 0, 1) := by decide +kernel
theorem dX0_clear_6 : decode cX0_clear 6 = .ok (.iconst 0, 1) := by decide +kernel
theorem dX0_clear_7 : decode cX0_clear 7 = .ok (.putfield 335, 3) := by decide +kernel
theorem dX0_clear_10 : decode cX0_clear 10 = .ok (.iload_n 1, 1) := by decide +kernel
theorem dX0_clear_11 : decode cX0_clear 11 = .ok (.ireturn, 1) := by decide +kernel
set_option maxHeartbeats 4000000 in
theorem cclear (l : Launch) (adK adV st : Nat → Nat) (D : va_G) (E : Nat → ClassId) (A : Nat → Prop) (ad nv : Nat → Nat) (I : Nat → Int) (F : Nat → Int → Int) (S : Nat → Nat → Int) (Y : Nat → Int → Int) (L : Nat → Nat)  : CM l yX0_clear cX0_clear 2 (some .int) (mrm 0) adK adV st D E A ad nv [.ref (ad 0)] I F S Y L (CQi D E A ad nv L (fun z I1 F1 S1 Y1 => I 45 = z ∧ va_up I 45 0 = I1 ∧ F = F1 ∧ S = S1 ∧ Y = Y1)) := by
  refine c_start (by decide) rfl (Nat.le_of_ble_eq_true rfl) ?_
  intro p e R s m args below meth c ls Q hR hQ hCK hml hr hlk hG hS hE hl
  have hx := hCK.1
  have hb := hCK.2.1
  have hown := hCK.2.2.1
  have hts := hCK.2.2.2.1
  have hK := hCK.2.2.2.2
  have hl : lv_has ls 2 [(0, .ref (ad 0))] := hl
  refine lv_aload_n hx hb dX0_clear_0 rfl (lv_at hl 0 rfl) ?_
  refine cg_X0_335 (v := I 45) hCK hG rfl dX0_clear_1 ?_
  refine lv_istore_n (lv' := [(1, .int (iI (I 45))), (0, .ref (ad 0))]) hx hb dX0_clear_4 rfl hl (by decide) rfl (fun ls hl => ?_)
  refine lv_aload_n hx hb dX0_clear_5 rfl (lv_at hl 1 rfl) ?_
  refine r_iconst hx hb dX0_clear_6 ?_
  refine cp_X0_335 hCK hG hS dX0_clear_7 (fun H locs hG hS => ?_)
  refine lv_iload_n hx hb dX0_clear_10 rfl (lv_at hl 0 rfl) ?_
  exact c_iret hCK hQ hr hlk hG hS dX0_clear_11 (⟨rfl, rfl, rfl, rfl, rfl⟩)
theorem dX0_lose_0 : decode cX0_lose 0 = .ok (.aload_n 0, 1) := by decide +kernel
theorem dX0_lose_1 : decode cX0_lose 1 = .ok (.iload_n 1, 1) := by decide +kernel
theorem dX0_lose_2 : decode cX0_lose 2 = .ok (.invokevirtual 167, 3) := by decide +kernel
theorem dX0_lose_5 : decode cX0_lose 5 = .ok (.astore_n 2, 1) := by decide +kernel
theorem dX0_lose_6 : decode cX0_lose 6 = .ok (.aload_n 2, 1) := by decide +kernel
theorem dX0_lose_7 : decode cX0_lose 7 = .ok (.ifnonnull 5, 3) := by decide +kernel
theorem dX0_lose_10 : decode cX0_lose 10 = .ok (.iconst 0, 1) := by decide +kernel
theorem dX0_lose_11 : decode cX0_lose 11 = .ok (.ireturn, 1) := by decide +kernel
theorem dX0_lose_12 : decode cX0_lose 12 = .ok (.aload_n 2, 1) := by decide +kernel
theorem dX0_lose_13 : decode cX0_lose 13 = .ok (.iconst 1, 1) := by decide +kernel
theorem dX0_lose_14 : decode cX0_lose 14 = .ok (.putfield 163, 3) := by decide +kernel
theorem dX0_lose_17 : decode cX0_lose 17 = .ok (.iconst 1, 1) := by decide +kernel
theorem dX0_lose_18 : decode cX0_lose 18 = .ok (.ireturn, 1) := by decide +kernel
set_option maxHeartbeats 4000000 in
theorem close (l : Launch) (adK adV st : Nat → Nat) (D : va_G) (E : Nat → ClassId) (A : Nat → Prop) (ad nv : Nat → Nat) (I : Nat → Int) (F : Nat → Int → Int) (S : Nat → Nat → Int) (Y : Nat → Int → Int) (L : Nat → Nat) (wt : Int) (r_wt : R32 wt) (hn : cOK nv I L) (gl0 : gLoad I F) : CM l yX0_lose cX0_lose 3 (some .boolean) (mrm 4) adK adV st D E A ad nv [.ref (ad 0), .int (iI wt)] I F S Y L (CQi D E A ad nv L (fun z I1 F1 S1 Y1 => (((0 ≤ wt ∧ wt < I 4 ∧ F 9 wt = 0)) ∧ 1 = z ∧ I = I1 ∧ upF F 9 wt 1 = F1 ∧ S = S1 ∧ Y = Y1) ∨ (¬ ((0 ≤ wt ∧ wt < I 4 ∧ F 9 wt = 0)) ∧ 0 = z ∧ I = I1 ∧ F = F1 ∧ S = S1 ∧ Y = Y1))) := by
  refine c_start (by decide) rfl (Nat.le_of_ble_eq_true rfl) ?_
  intro p e R s m args below meth c ls Q hR hQ hCK hml hr hlk hG hS hE hl
  have hx := hCK.1
  have hb := hCK.2.1
  have hown := hCK.2.2.1
  have hts := hCK.2.2.2.1
  have hK := hCK.2.2.2.2
  have hl : lv_has ls 3 [(0, .ref (ad 0)), (1, .int (iI wt))] := hl
  obtain ⟨i4, a5, a6, a7, a8, a9, i10, a11, a12, a13, a14, a14h⟩ := id gl0
  obtain ⟨⟨n0, n1, n2, n3⟩, ⟨l0, l1, l2, l3⟩, c0, c1, c2, c3⟩ := id hn
  refine lv_aload_n hx hb dX0_lose_0 rfl (lv_at hl 0 rfl) ?_
  refine lv_iload_n hx hb dX0_lose_1 rfl (lv_at hl 1 rfl) ?_
  refine j_callr (j_runV (n := 1) (C := RX0) (b := ad 0) (rest := []) (as := [.int (iI wt)]) hx hb hml hown hts (cwat l adK adV st D E A ad nv I F S Y L wt (by omega) hn gl0) GB.blind (GB.at hK hG hE hS) (g_rec (r := 0) (ci := 0) hK hG (Or.inl (by decide)) rfl cC_0) q699 q701 qs17 q68 q702 (by decide +kernel) ⟨rfl, rfl⟩ hR (by decide) ⟨Nat.zero_le _, Nat.zero_le _⟩ rfl hl.1 rfl (Nat.le_of_ble_eq_true rfl) dX0_lose_2) ?_
  by_cases cq : 0 ≤ wt ∧ wt < I 4 ∧ F 9 wt = 0
  · rw [if_pos cq]
    refine lv_astore_n (lv' := [(2, .ref (ad (3200 + wt.toNat))), (0, .ref (ad 0)), (1, .int (iI wt))]) hx hb dX0_lose_5 rfl hl (by decide) rfl (fun ls hl => ?_)
    refine lv_aload_n hx hb dX0_lose_6 rfl (lv_at hl 0 rfl) ?_
    refine lv_ifnonnull (tgt := 12) hx hb dX0_lose_7 (by decide) ?_
    refine lv_aload_n hx hb dX0_lose_12 rfl (lv_at hl 0 rfl) ?_
    refine r_iconst hx hb dX0_lose_13 ?_
    refine cp_X0_163 (z := wt) hCK hE hG hS (by omega) (by decide) dX0_lose_14 (fun H locs hG hS => ?_)
    refine r_iconst hx hb dX0_lose_17 ?_
    exact c_zret hCK hQ hr hlk hG hS (by decide) dX0_lose_18 (Or.inl ⟨cq, rfl, rfl, rfl, rfl, rfl⟩)
  · rw [if_neg cq]
    refine lv_astore_nN (lv' := [(2, .null), (0, .ref (ad 0)), (1, .int (iI wt))]) hx hb dX0_lose_5 rfl hl (by decide) rfl (fun ls hl => ?_)
    refine lv_aload_nN hx hb dX0_lose_6 rfl (lv_at hl 0 rfl) ?_
    refine lv_ifnonnullN hx hb dX0_lose_7 ?_
    refine r_iconst hx hb dX0_lose_10 ?_
    exact c_zret hCK hQ hr hlk hG hS (by decide) dX0_lose_11 (Or.inr ⟨cq, rfl, rfl, rfl, rfl, rfl⟩)
