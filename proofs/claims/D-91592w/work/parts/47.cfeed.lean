/-! THE COMPONENT: set, feed -/
set_option maxRecDepth 100000

theorem b8_of (x : Int32) : b8 x.toInt = x.toInt8.toInt := by
  unfold b8
  rw [Int8.toInt_ofInt, Int32.toInt_toInt8]
theorem bv_sh (x : BitVec 32) (k : Nat) (hk : k ≤ 24) : (x >>> k).signExtend 8 = (x.sshiftRight k).signExtend 8 := by
  rw [BitVec.signExtend_eq_setWidth_of_le _ (by decide), BitVec.signExtend_eq_setWidth_of_le _ (by decide)]
  apply BitVec.eq_of_getLsbD_eq
  intro i hi
  simp only [BitVec.getLsbD_setWidth, BitVec.getLsbD_ushiftRight, BitVec.getLsbD_sshiftRight]
  have h1 : i < 32 := by omega
  have h2 : k + i < 32 := by omega
  simp [h2, show ¬ 32 ≤ i by omega]
theorem b8_sh (v : Int) (k : Nat) (hk : k = 0 ∨ k = 8 ∨ k = 16 ∨ k = 24) : b8 (ushrZ v k) = b8 (shrZ v k) := by
  unfold ushrZ shrZ
  rw [b8_of, b8_of]
  generalize iI v = x
  congr 1
  apply Int8.toBitVec_inj.mp
  have h := bv_sh x.toBitVec k (by omega)
  rcases hk with rfl | rfl | rfl | rfl <;> exact h
theorem dX0_set_0 : decode cX0_set 0 = .ok (.iload_n 1, 1) := by decide +kernel
theorem dX0_set_1 : decode cX0_set 1 = .ok (.tableswitch 115 0 3 #[31, 52, 73, 94], 31) := by decide +kernel
theorem dX0_set_32 : decode cX0_set 32 = .ok (.iload_n 2, 1) := by decide +kernel
theorem dX0_set_33 : decode cX0_set 33 = .ok (.i2l, 1) := by decide +kernel
theorem dX0_set_34 : decode cX0_set 34 = .ok (.lconst 1, 1) := by decide +kernel
theorem dX0_set_35 : decode cX0_set 35 = .ok (.ldc2_w 258, 3) := by decide +kernel
theorem dX0_set_38 : decode cX0_set 38 = .ok (.invokestatic 101, 3) := by decide +kernel
theorem dX0_set_41 : decode cX0_set 41 = .ok (.ifCond .ne 5, 3) := by decide +kernel
theorem dX0_set_44 : decode cX0_set 44 = .ok (.iconst 0, 1) := by decide +kernel
theorem dX0_set_45 : decode cX0_set 45 = .ok (.ireturn, 1) := by decide +kernel
theorem dX0_set_46 : decode cX0_set 46 = .ok (.aload_n 0, 1) := by decide +kernel
theorem dX0_set_47 : decode cX0_set 47 = .ok (.iload_n 2, 1) := by decide +kernel
theorem dX0_set_48 : decode cX0_set 48 = .ok (.putfield 53, 3) := by decide +kernel
theorem dX0_set_51 : decode cX0_set 51 = .ok (.iconst 1, 1) := by decide +kernel
theorem dX0_set_52 : decode cX0_set 52 = .ok (.ireturn, 1) := by decide +kernel
theorem dX0_set_53 : decode cX0_set 53 = .ok (.iload_n 2, 1) := by decide +kernel
theorem dX0_set_54 : decode cX0_set 54 = .ok (.i2l, 1) := by decide +kernel
theorem dX0_set_55 : decode cX0_set 55 = .ok (.lconst 0, 1) := by decide +kernel
theorem dX0_set_56 : decode cX0_set 56 = .ok (.ldc2_w 260, 3) := by decide +kernel
theorem dX0_set_59 : decode cX0_set 59 = .ok (.invokestatic 101, 3) := by decide +kernel
theorem dX0_set_62 : decode cX0_set 62 = .ok (.ifCond .ne 5, 3) := by decide +kernel
theorem dX0_set_65 : decode cX0_set 65 = .ok (.iconst 0, 1) := by decide +kernel
theorem dX0_set_66 : decode cX0_set 66 = .ok (.ireturn, 1) := by decide +kernel
theorem dX0_set_67 : decode cX0_set 67 = .ok (.aload_n 0, 1) := by decide +kernel
theorem dX0_set_68 : decode cX0_set 68 = .ok (.iload_n 2, 1) := by decide +kernel
theorem dX0_set_69 : decode cX0_set 69 = .ok (.putfield 57, 3) := by decide +kernel
theorem dX0_set_72 : decode cX0_set 72 = .ok (.iconst 1, 1) := by decide +kernel
theorem dX0_set_73 : decode cX0_set 73 = .ok (.ireturn, 1) := by decide +kernel
theorem dX0_set_74 : decode cX0_set 74 = .ok (.iload_n 2, 1) := by decide +kernel
theorem dX0_set_75 : decode cX0_set 75 = .ok (.i2l, 1) := by decide +kernel
theorem dX0_set_76 : decode cX0_set 76 = .ok (.lconst 1, 1) := by decide +kernel
theorem dX0_set_77 : decode cX0_set 77 = .ok (.ldc2_w 260, 3) := by decide +kernel
theorem dX0_set_80 : decode cX0_set 80 = .ok (.invokestatic 101, 3) := by decide +kernel
theorem dX0_set_83 : decode cX0_set 83 = .ok (.ifCond .ne 5, 3) := by decide +kernel
theorem dX0_set_86 : decode cX0_set 86 = .ok (.iconst 0, 1) := by decide +kernel
theorem dX0_set_87 : decode cX0_set 87 = .ok (.ireturn, 1) := by decide +kernel
theorem dX0_set_88 : decode cX0_set 88 = .ok (.aload_n 0, 1) := by decide +kernel
theorem dX0_set_89 : decode cX0_set 89 = .ok (.iload_n 2, 1) := by decide +kernel
theorem dX0_set_90 : decode cX0_set 90 = .ok (.putfield 60, 3) := by decide +kernel
theorem dX0_set_93 : decode cX0_set 93 = .ok (.iconst 1, 1) := by decide +kernel
theorem dX0_set_94 : decode cX0_set 94 = .ok (.ireturn, 1) := by decide +kernel
theorem dX0_set_95 : decode cX0_set 95 = .ok (.iload_n 2, 1) := by decide +kernel
theorem dX0_set_96 : decode cX0_set 96 = .ok (.i2l, 1) := by decide +kernel
theorem dX0_set_97 : decode cX0_set 97 = .ok (.lconst 0, 1) := by decide +kernel
theorem dX0_set_98 : decode cX0_set 98 = .ok (.ldc2_w 171, 3) := by decide +kernel
theorem dX0_set_101 : decode cX0_set 101 = .ok (.invokestatic 101, 3) := by decide +kernel
theorem dX0_set_104 : decode cX0_set 104 = .ok (.ifCond .ne 5, 3) := by decide +kernel
theorem dX0_set_107 : decode cX0_set 107 = .ok (.iconst 0, 1) := by decide +kernel
theorem dX0_set_108 : decode cX0_set 108 = .ok (.ireturn, 1) := by decide +kernel
theorem dX0_set_109 : decode cX0_set 109 = .ok (.aload_n 0, 1) := by decide +kernel
theorem dX0_set_110 : decode cX0_set 110 = .ok (.iload_n 2, 1) := by decide +kernel
theorem dX0_set_111 : decode cX0_set 111 = .ok (.putfield 262, 3) := by decide +kernel
theorem dX0_set_114 : decode cX0_set 114 = .ok (.iconst 1, 1) := by decide +kernel
theorem dX0_set_115 : decode cX0_set 115 = .ok (.ireturn, 1) := by decide +kernel
theorem dX0_set_116 : decode cX0_set 116 = .ok (.iconst 0, 1) := by decide +kernel
theorem dX0_set_117 : decode cX0_set 117 = .ok (.ireturn, 1) := by decide +kernel
set_option maxHeartbeats 4000000 in
theorem cset (l : Launch) (adK adV st : Nat → Nat) (D : va_G) (E : Nat → ClassId) (A : Nat → Prop) (ad nv : Nat → Nat) (I : Nat → Int) (F : Nat → Int → Int) (S : Nat → Nat → Int) (Y : Nat → Int → Int) (L : Nat → Nat) (wh vl : Int) (r_wh : R32 wh) (r_vl : R32 vl) : CM l yX0_set cX0_set 3 (some .boolean) (mrm 1) adK adV st D E A ad nv [.ref (ad 0), .int (iI wh), .int (iI vl)] I F S Y L (CQi D E A ad nv L (fun z I1 F1 S1 Y1 => (((wh = 0 ∧ 1 ≤ vl ∧ vl ≤ 1000000) ∨ (wh = 1 ∧ 0 ≤ vl ∧ vl ≤ 50) ∨ (wh = 2 ∧ 1 ≤ vl ∧ vl ≤ 50) ∨ (wh = 3 ∧ 0 ≤ vl ∧ vl ≤ 9)) ∧ 1 = z ∧ (if wh = 0 then va_up I 22 vl else if wh = 1 then va_up I 23 vl else if wh = 2 then va_up I 24 vl else va_up I 25 vl) = I1 ∧ F = F1 ∧ S = S1 ∧ Y = Y1) ∨ (¬ ((wh = 0 ∧ 1 ≤ vl ∧ vl ≤ 1000000) ∨ (wh = 1 ∧ 0 ≤ vl ∧ vl ≤ 50) ∨ (wh = 2 ∧ 1 ≤ vl ∧ vl ≤ 50) ∨ (wh = 3 ∧ 0 ≤ vl ∧ vl ≤ 9)) ∧ 0 = z ∧ I = I1 ∧ F = F1 ∧ S = S1 ∧ Y = Y1))) := by
  refine c_start (by decide) rfl (Nat.le_of_ble_eq_true rfl) ?_
  intro p e R s m args below meth c ls Q hR hQ hCK hml hr hlk hG hS hE hl
  have hx := hCK.1
  have hb := hCK.2.1
  have hown := hCK.2.2.1
  have hts := hCK.2.2.2.1
  have hK := hCK.2.2.2.2
  have hl : lv_has ls 3 [(0, .ref (ad 0)), (1, .int (iI wh)), (2, .int (iI vl))] := hl
  refine lv_iload_n hx hb dX0_set_0 rfl (lv_at hl 1 rfl) ?_
  rcases (show ((wh) < 0 ∨ 3 < (wh)) ∨ (wh) = 0 ∨ (wh) = 1 ∨ (wh) = 2 ∨ (wh) = 3 by omega) with hsw | rfl | rfl | rfl | rfl
  · refine lv_tableOut (tgt := 116) hx hb dX0_set_1 (by rw [iI_toInt (by omega)]; exact hsw) (by decide) ?_
    refine r_iconst hx hb dX0_set_116 ?_
    exact c_zret hCK hQ hr hlk hG hS (by decide) dX0_set_117 (Or.inr ⟨by omega, rfl, rfl, rfl, rfl, rfl⟩)
  · refine lv_tableIn (tgt := 32) (off := 31) hx hb dX0_set_1 (by decide) (by decide) (by decide) (by decide) ?_
    refine lv_iload_n hx hb dX0_set_32 rfl (lv_at hl 2 rfl) ?_
    refine r_i2l hx hb dX0_set_33 (by omega) ?_
    refine r_lconst hx hb 1 dX0_set_34 (by decide) ?_
    refine r_ldc2 hx hb 1000000 hown (hts _ q840) (by decide) dX0_set_35 ?_
    refine s_calli (j_runS (n := 3) (rest := []) (as := [.long (iL vl), .long (iL 1), .long (iL 1000000)]) hx hb hml hown hts ((cin l vl 1 1000000 (by omega) (by decide) (by decide)).jm) (fun _ _ _ _ _ => trivial) (fun _ _ _ => trivial) q296 q297 q68 q298 (by decide +kernel) ⟨rfl, rfl⟩ hR (by decide) ⟨Nat.zero_le _, Nat.zero_le _⟩ rfl hl.1 rfl (Nat.le_of_ble_eq_true rfl) dX0_set_38) ?_
    refine r_ifneB (tgt := 46) hx hb dX0_set_41 (by decide) (fun c1 => ?_) (fun c1 => ?_)
    · refine lv_aload_n hx hb dX0_set_46 rfl (lv_at hl 0 rfl) ?_
      refine lv_iload_n hx hb dX0_set_47 rfl (lv_at hl 2 rfl) ?_
      refine cp_X0_53 hCK hG hS dX0_set_48 (fun H locs hG hS => ?_)
      refine r_iconst hx hb dX0_set_51 ?_
      exact c_zret hCK hQ hr hlk hG hS (by decide) dX0_set_52 (Or.inl ⟨by omega, rfl, rfl, rfl, rfl, rfl⟩)
    · refine r_iconst hx hb dX0_set_44 ?_
      exact c_zret hCK hQ hr hlk hG hS (by decide) dX0_set_45 (Or.inr ⟨by omega, rfl, rfl, rfl, rfl, rfl⟩)
  · refine lv_tableIn (tgt := 53) (off := 52) hx hb dX0_set_1 (by decide) (by decide) (by decide) (by decide) ?_
    refine lv_iload_n hx hb dX0_set_53 rfl (lv_at hl 2 rfl) ?_
    refine r_i2l hx hb dX0_set_54 (by omega) ?_
    refine r_lconst hx hb 0 dX0_set_55 (by decide) ?_
    refine r_ldc2 hx hb 50 hown (hts _ q841) (by decide) dX0_set_56 ?_
    refine s_calli (j_runS (n := 3) (rest := []) (as := [.long (iL vl), .long (iL 0), .long (iL 50)]) hx hb hml hown hts ((cin l vl 0 50 (by omega) (by decide) (by decide)).jm) (fun _ _ _ _ _ => trivial) (fun _ _ _ => trivial) q296 q297 q68 q298 (by decide +kernel) ⟨rfl, rfl⟩ hR (by decide) ⟨Nat.zero_le _, Nat.zero_le _⟩ rfl hl.1 rfl (Nat.le_of_ble_eq_true rfl) dX0_set_59) ?_
    refine r_ifneB (tgt := 67) hx hb dX0_set_62 (by decide) (fun c2 => ?_) (fun c2 => ?_)
    · refine lv_aload_n hx hb dX0_set_67 rfl (lv_at hl 0 rfl) ?_
      refine lv_iload_n hx hb dX0_set_68 rfl (lv_at hl 2 rfl) ?_
      refine cp_X0_57 hCK hG hS dX0_set_69 (fun H locs hG hS => ?_)
      refine r_iconst hx hb dX0_set_72 ?_
      exact c_zret hCK hQ hr hlk hG hS (by decide) dX0_set_73 (Or.inl ⟨by omega, rfl, rfl, rfl, rfl, rfl⟩)
    · refine r_iconst hx hb dX0_set_65 ?_
      exact c_zret hCK hQ hr hlk hG hS (by decide) dX0_set_66 (Or.inr ⟨by omega, rfl, rfl, rfl, rfl, rfl⟩)
  · refine lv_tableIn (tgt := 74) (off := 73) hx hb dX0_set_1 (by decide) (by decide) (by decide) (by decide) ?_
    refine lv_iload_n hx hb dX0_set_74 rfl (lv_at hl 2 rfl) ?_
    refine r_i2l hx hb dX0_set_75 (by omega) ?_
    refine r_lconst hx hb 1 dX0_set_76 (by decide) ?_
    refine r_ldc2 hx hb 50 hown (hts _ q841) (by decide) dX0_set_77 ?_
    refine s_calli (j_runS (n := 3) (rest := []) (as := [.long (iL vl), .long (iL 1), .long (iL 50)]) hx hb hml hown hts ((cin l vl 1 50 (by omega) (by decide) (by decide)).jm) (fun _ _ _ _ _ => trivial) (fun _ _ _ => trivial) q296 q297 q68 q298 (by decide +kernel) ⟨rfl, rfl⟩ hR (by decide) ⟨Nat.zero_le _, Nat.zero_le _⟩ rfl hl.1 rfl (Nat.le_of_ble_eq_true rfl) dX0_set_80) ?_
    refine r_ifneB (tgt := 88) hx hb dX0_set_83 (by decide) (fun c3 => ?_) (fun c3 => ?_)
    · refine lv_aload_n hx hb dX0_set_88 rfl (lv_at hl 0 rfl) ?_
      refine lv_iload_n hx hb dX0_set_89 rfl (lv_at hl 2 rfl) ?_
      refine cp_X0_60 hCK hG hS dX0_set_90 (fun H locs hG hS => ?_)
      refine r_iconst hx hb dX0_set_93 ?_
      exact c_zret hCK hQ hr hlk hG hS (by decide) dX0_set_94 (Or.inl ⟨by omega, rfl, rfl, rfl, rfl, rfl⟩)
    · refine r_iconst hx hb dX0_set_86 ?_
      exact c_zret hCK hQ hr hlk hG hS (by decide) dX0_set_87 (Or.inr ⟨by omega, rfl, rfl, rfl, rfl, rfl⟩)
  · refine lv_tableIn (tgt := 95) (off := 94) hx hb dX0_set_1 (by decide) (by decide) (by decide) (by decide) ?_
    refine lv_iload_n hx hb dX0_set_95 rfl (lv_at hl 2 rfl) ?_
    refine r_i2l hx hb dX0_set_96 (by omega) ?_
    refine r_lconst hx hb 0 dX0_set_97 (by decide) ?_
    refine r_ldc2 hx hb 9 hown (hts _ q708) (by decide) dX0_set_98 ?_
    refine s_calli (j_runS (n := 3) (rest := []) (as := [.long (iL vl), .long (iL 0), .long (iL 9)]) hx hb hml hown hts ((cin l vl 0 9 (by omega) (by decide) (by decide)).jm) (fun _ _ _ _ _ => trivial) (fun _ _ _ => trivial) q296 q297 q68 q298 (by decide +kernel) ⟨rfl, rfl⟩ hR (by decide) ⟨Nat.zero_le _, Nat.zero_le _⟩ rfl hl.1 rfl (Nat.le_of_ble_eq_true rfl) dX0_set_101) ?_
    refine r_ifneB (tgt := 109) hx hb dX0_set_104 (by decide) (fun c4 => ?_) (fun c4 => ?_)
    · refine lv_aload_n hx hb dX0_set_109 rfl (lv_at hl 0 rfl) ?_
      refine lv_iload_n hx hb dX0_set_110 rfl (lv_at hl 2 rfl) ?_
      refine cp_X0_262 hCK hG hS dX0_set_111 (fun H locs hG hS => ?_)
      refine r_iconst hx hb dX0_set_114 ?_
      exact c_zret hCK hQ hr hlk hG hS (by decide) dX0_set_115 (Or.inl ⟨by omega, rfl, rfl, rfl, rfl, rfl⟩)
    · refine r_iconst hx hb dX0_set_107 ?_
      exact c_zret hCK hQ hr hlk hG hS (by decide) dX0_set_108 (Or.inr ⟨by omega, rfl, rfl, rfl, rfl, rfl⟩)
theorem dX0_feeds_0 : decode cX0_feeds 0 = .ok (.iconst 3, 1) := by decide +kernel
theorem dX0_feeds_1 : decode cX0_feeds 1 = .ok (.istore_n 2, 1) := by decide +kernel
theorem dX0_feeds_2 : decode cX0_feeds 2 = .ok (.iload_n 2, 1) := by decide +kernel
theorem dX0_feeds_3 : decode cX0_feeds 3 = .ok (.ifCond .lt 35, 3) := by decide +kernel
theorem dX0_feeds_6 : decode cX0_feeds 6 = .ok (.aload_n 0, 1) := by decide +kernel
theorem dX0_feeds_7 : decode cX0_feeds 7 = .ok (.getfield 18, 3) := by decide +kernel
theorem dX0_feeds_10 : decode cX0_feeds 10 = .ok (.aload_n 0, 1) := by decide +kernel
theorem dX0_feeds_11 : decode cX0_feeds 11 = .ok (.getfield 95, 3) := by decide +kernel
theorem dX0_feeds_14 : decode cX0_feeds 14 = .ok (.iload_n 1, 1) := by decide +kernel
theorem dX0_feeds_15 : decode cX0_feeds 15 = .ok (.bipush 8, 2) := by decide +kernel
theorem dX0_feeds_17 : decode cX0_feeds 17 = .ok (.iload_n 2, 1) := by decide +kernel
theorem dX0_feeds_18 : decode cX0_feeds 18 = .ok (.imul, 1) := by decide +kernel
theorem dX0_feeds_19 : decode cX0_feeds 19 = .ok (.iushr, 1) := by decide +kernel
theorem dX0_feeds_20 : decode cX0_feeds 20 = .ok (.i2b, 1) := by decide +kernel
theorem dX0_feeds_21 : decode cX0_feeds 21 = .ok (.bastore, 1) := by decide +kernel
theorem dX0_feeds_22 : decode cX0_feeds 22 = .ok (.aload_n 0, 1) := by decide +kernel
theorem dX0_feeds_23 : decode cX0_feeds 23 = .ok (.dup, 1) := by decide +kernel
theorem dX0_feeds_24 : decode cX0_feeds 24 = .ok (.getfield 95, 3) := by decide +kernel
theorem dX0_feeds_27 : decode cX0_feeds 27 = .ok (.iconst 1, 1) := by decide +kernel
theorem dX0_feeds_28 : decode cX0_feeds 28 = .ok (.iadd, 1) := by decide +kernel
theorem dX0_feeds_29 : decode cX0_feeds 29 = .ok (.putfield 95, 3) := by decide +kernel
theorem dX0_feeds_32 : decode cX0_feeds 32 = .ok (.iinc 2 (-1), 3) := by decide +kernel
theorem dX0_feeds_35 : decode cX0_feeds 35 = .ok (.goto (-33), 3) := by decide +kernel
theorem dX0_feeds_38 : decode cX0_feeds 38 = .ok (.return_, 1) := by decide +kernel
set_option maxHeartbeats 4000000 in
theorem cfeeds (l : Launch) (adK adV st : Nat → Nat) (D : va_G) (E : Nat → ClassId) (A : Nat → Prop) (ad nv : Nat → Nat) (I : Nat → Int) (F : Nat → Int → Int) (S : Nat → Nat → Int) (Y : Nat → Int → Int) (L : Nat → Nat) (vv : Int) (hv : 0 ≤ I 48 ∧ I 48 ≤ 296) : CM l yX0_feeds cX0_feeds 3 none (mrm 0) adK adV st D E A ad nv [.ref (ad 0), .int (iI vv)] I F S Y L (CQv D E A ad nv L (fun I1 F1 S1 Y1 => va_up I 48 (I 48 + 4) = I1 ∧ va_up F 47 (fedT (F 47) (I 48) (fun j => b8 (ushrZ vv (8 * (3 - j)))) 4) = F1 ∧ S = S1 ∧ Y = Y1)) := by
  refine c_start (by decide) rfl (Nat.le_of_ble_eq_true rfl) ?_
  intro p e R s m args below meth c ls Q hR hQ hCK hml hr hlk hG hS hE hl
  have hx := hCK.1
  have hb := hCK.2.1
  have hown := hCK.2.2.1
  have hts := hCK.2.2.2.1
  have hK := hCK.2.2.2.2
  have hl : lv_has ls 3 [(0, .ref (ad 0)), (1, .int (iI vv))] := hl
  refine r_iconst hx hb dX0_feeds_0 ?_
  refine lv_istore_n (lv' := [(2, .int (iI 3)), (0, .ref (ad 0)), (1, .int (iI vv))]) hx hb dX0_feeds_1 rfl hl (by decide) rfl (fun ls hl => ?_)
  have loop2_1 : ∀ (n : Nat) (k : Int) (I1 : Nat → Int) (F1 : Nat → Int → Int), k + 1 < (n : Int) → -1 ≤ k → k ≤ 3 → I1 = va_up I 48 (I 48 + (3 - k)) → F1 = va_up F 47 (fedT (F 47) (I 48) (fun j => b8 (ushrZ vv (8 * (3 - j)))) (3 - k)) → ∀ (H : Heap) (locs : List Loc) (ls : Array Slot), CW D E A ad nv I1 F1 S Y L H → va_S A s.heap H locs → lv_has ls 3 [(2, .int (iI k)), (0, .ref (ad 0)), (1, .int (iI vv))] → W p l e R s m args below meth c H locs 0 0 Q (F0 m 2 ls []) := by
    intro n
    induction n with
    | zero => intro k I1 F1 hn3 hk0 hk1 eI eF; exfalso; omega
    | succ n ih2 =>
      intro k I1 F1 hn3 hk0 hk1 eI eF H locs ls hG hS hl
      subst eI
      subst eF
      refine lv_iload_n hx hb dX0_feeds_2 rfl (lv_at hl 0 rfl) ?_
      refine r_if_lt (tgt := 38) hx hb dX0_feeds_3 (by decide) (by omega) (fun c4 => ?_) (fun c4 => ?_)
      · have ek : k = -1 := by omega
        subst ek
        exact c_vret hCK hQ hr hlk hG hS dX0_feeds_38 (⟨rfl, rfl, rfl, rfl⟩)
      · refine lv_aload_n hx hb dX0_feeds_6 rfl (lv_at hl 1 rfl) ?_
        refine cg_X0_18 hCK hG dX0_feeds_7 ?_
        refine lv_aload_n hx hb dX0_feeds_10 rfl (lv_at hl 1 rfl) ?_
        refine cg_X0_95 (v := I 48 + (3 - k)) hCK hG rfl dX0_feeds_11 ?_
        refine lv_iload_n hx hb dX0_feeds_14 rfl (lv_at hl 2 rfl) ?_
        refine r_bipush hx hb dX0_feeds_15 (by decide) ?_
        refine lv_iload_n hx hb dX0_feeds_17 rfl (lv_at hl 0 rfl) ?_
        refine r_imul hx hb dX0_feeds_18 ?_
        refine r_iushr hx hb dX0_feeds_19 ?_
        refine r_i2b hx hb dX0_feeds_20 ?_
        refine cs_1 (z := I 48 + (3 - k)) (v := b8 (ushrZ vv (8 * k))) hCK hG hS (by omega) (b8_R _) dX0_feeds_21 (fun H locs hG hS => ?_)
        rw [upF_up] at hG
        refine lv_aload_n hx hb dX0_feeds_22 rfl (lv_at hl 1 rfl) ?_
        refine lv_dup hx hb dX0_feeds_23 rfl ?_
        refine cg_X0_95 (v := I 48 + (3 - k)) hCK hG rfl dX0_feeds_24 ?_
        refine r_iconst hx hb dX0_feeds_27 ?_
        refine r_iadd hx hb dX0_feeds_28 ?_
        refine cp_X0_95 hCK hG hS dX0_feeds_29 (fun H locs hG hS => ?_)
        refine lv_iinc (v := iI (k + (-1))) (lv' := [(2, .int (iI (k + (-1)))), (0, .ref (ad 0)), (1, .int (iI vv))]) hx hb dX0_feeds_32 hl (k := 0) rfl (iI_add _ _) (by decide) rfl (fun ls hl => ?_)
        refine lv_goto (tgt := 2) hx hb dX0_feeds_35 (by decide) ?_
        exact ih2 (k + (-1)) (va_up (va_up I 48 (I 48 + (3 - k))) 48 ((I 48 + (3 - k)) + 1)) (va_up F 47 (updZ (fedT (F 47) (I 48) (fun j => b8 (ushrZ vv (8 * (3 - j)))) (3 - k)) (I 48 + (3 - k)) (b8 (ushrZ vv (8 * k))))) (by omega) (by omega) (by omega) (by rw [up_up]; congr 1; omega) (by rw [show 3 - (k + -1) = 3 - k + 1 by omega, ← fedT_s (F 47) (I 48) (fun j => b8 (ushrZ vv (8 * (3 - j)))) (show 0 ≤ 3 - k by omega)]; show _ = va_up F 47 (updZ _ _ (b8 (ushrZ vv (8 * (3 - (3 - k)))))); rw [show 3 - (3 - k) = k by omega]) _ _ _ hG hS (lv_sub hl [0, 1, 2] rfl)
  exact loop2_1 ((3 + 1 : Int).toNat + 1) 3 I F (by omega) (by omega) (by omega) (by rw [show I 48 + (3 - 3) = I 48 by omega, up_self]) (by rw [show (3 : Int) - 3 = 0 from rfl, fedT_0, up_self]) _ _ _ hG hS (lv_sub hl [0, 1, 2] rfl)
