/-! THE COMPONENT: check -/
set_option maxRecDepth 100000

theorem GW.back {D : va_G} {A V V1 : Nat → Prop} {ad ad1 : Nat → Nat} {C C1 : Nat → va_E} {H : Heap} (h : GW D A V1 ad1 C1 H) (hv : ∀ r, V r → V1 r) (ha : ∀ r, V r → ad1 r = ad r) (hc : ∀ r, V r → C1 r = C r) : GW D A V ad C H := fun r hr => by
  obtain ⟨h1, h2, h3⟩ := h r (hv r hr)
  rw [hc r hr, ha r hr] at h1
  rw [ha r hr] at h2
  exact ⟨h1, h2, fun q hq e => h3 q (hv q hq) (by rw [ha q hq, ha r hr]; exact e)⟩
theorem cC_kp2 {E : Nat → ClassId} {ad : Nat → Nat} {I : Nat → Int} {F : Nat → Int → Int} {S : Nat → Nat → Int} {Y : Nat → Int → Int} {L : Nat → Nat} {k : Nat} (h : k < 600) : cC E ad I F S Y L (1000 + k) = .inl (E 0, 5, ai (Y (1000 + k))) := by
  rw [cC_a (by omega)]
  have e1 : aK (1000 + k) = (0, 5) := by
    unfold aK
    repeat (first | rw [if_pos (by omega)] | rw [if_neg (by omega)])
  have e2 : aY F Y (1000 + k) = Y (1000 + k) := by
    unfold aY
    repeat rw [if_neg (by omega)]
  rw [e1, e2]
theorem dX0_check_0 : decode cX0_check 0 = .ok (.iload_n 1, 1) := by decide +kernel
theorem dX0_check_1 : decode cX0_check 1 = .ok (.i2l, 1) := by decide +kernel
theorem dX0_check_2 : decode cX0_check 2 = .ok (.lconst 0, 1) := by decide +kernel
theorem dX0_check_3 : decode cX0_check 3 = .ok (.aload_n 0, 1) := by decide +kernel
theorem dX0_check_4 : decode cX0_check 4 = .ok (.getfield 68, 3) := by decide +kernel
theorem dX0_check_7 : decode cX0_check 7 = .ok (.getfield 271, 3) := by decide +kernel
theorem dX0_check_10 : decode cX0_check 10 = .ok (.iconst 1, 1) := by decide +kernel
theorem dX0_check_11 : decode cX0_check 11 = .ok (.isub, 1) := by decide +kernel
theorem dX0_check_12 : decode cX0_check 12 = .ok (.i2l, 1) := by decide +kernel
theorem dX0_check_13 : decode cX0_check 13 = .ok (.invokestatic 101, 3) := by decide +kernel
theorem dX0_check_16 : decode cX0_check 16 = .ok (.ifCond .eq 26, 3) := by decide +kernel
theorem dX0_check_19 : decode cX0_check 19 = .ok (.iload_n 2, 1) := by decide +kernel
theorem dX0_check_20 : decode cX0_check 20 = .ok (.i2l, 1) := by decide +kernel
theorem dX0_check_21 : decode cX0_check 21 = .ok (.lconst 0, 1) := by decide +kernel
theorem dX0_check_22 : decode cX0_check 22 = .ok (.ldc2_w 222, 3) := by decide +kernel
theorem dX0_check_25 : decode cX0_check 25 = .ok (.invokestatic 101, 3) := by decide +kernel
theorem dX0_check_28 : decode cX0_check 28 = .ok (.ifCond .eq 14, 3) := by decide +kernel
theorem dX0_check_31 : decode cX0_check 31 = .ok (.aload_n 0, 1) := by decide +kernel
theorem dX0_check_32 : decode cX0_check 32 = .ok (.getfield 77, 3) := by decide +kernel
theorem dX0_check_35 : decode cX0_check 35 = .ok (.iload_n 1, 1) := by decide +kernel
theorem dX0_check_36 : decode cX0_check 36 = .ok (.aaload, 1) := by decide +kernel
theorem dX0_check_37 : decode cX0_check 37 = .ok (.iconst 3, 1) := by decide +kernel
theorem dX0_check_38 : decode cX0_check 38 = .ok (.iaload, 1) := by decide +kernel
theorem dX0_check_39 : decode cX0_check 39 = .ok (.ifCond .ne 5, 3) := by decide +kernel
theorem dX0_check_42 : decode cX0_check 42 = .ok (.iconst (-1), 1) := by decide +kernel
theorem dX0_check_43 : decode cX0_check 43 = .ok (.ireturn, 1) := by decide +kernel
theorem dX0_check_44 : decode cX0_check 44 = .ok (.iconst 3, 1) := by decide +kernel
theorem dX0_check_45 : decode cX0_check 45 = .ok (.newarray .int, 2) := by decide +kernel
theorem dX0_check_47 : decode cX0_check 47 = .ok (.astore 4, 2) := by decide +kernel
theorem dX0_check_49 : decode cX0_check 49 = .ok (.iconst 0, 1) := by decide +kernel
theorem dX0_check_50 : decode cX0_check 50 = .ok (.istore 5, 2) := by decide +kernel
theorem dX0_check_52 : decode cX0_check 52 = .ok (.iload 5, 2) := by decide +kernel
theorem dX0_check_54 : decode cX0_check 54 = .ok (.iconst 3, 1) := by decide +kernel
theorem dX0_check_55 : decode cX0_check 55 = .ok (.if_icmp .ge 43, 3) := by decide +kernel
theorem dX0_check_58 : decode cX0_check 58 = .ok (.aload 4, 2) := by decide +kernel
theorem dX0_check_60 : decode cX0_check 60 = .ok (.iload 5, 2) := by decide +kernel
theorem dX0_check_62 : decode cX0_check 62 = .ok (.iload 5, 2) := by decide +kernel
theorem dX0_check_64 : decode cX0_check 64 = .ok (.iload_n 2, 1) := by decide +kernel
theorem dX0_check_65 : decode cX0_check 65 = .ok (.if_icmp .ne 17, 3) := by decide +kernel
theorem dX0_check_68 : decode cX0_check 68 = .ok (.aload_n 0, 1) := by decide +kernel
theorem dX0_check_69 : decode cX0_check 69 = .ok (.getfield 77, 3) := by decide +kernel
theorem dX0_check_72 : decode cX0_check 72 = .ok (.iload_n 1, 1) := by decide +kernel
theorem dX0_check_73 : decode cX0_check 73 = .ok (.aaload, 1) := by decide +kernel
theorem dX0_check_74 : decode cX0_check 74 = .ok (.iload 5, 2) := by decide +kernel
theorem dX0_check_76 : decode cX0_check 76 = .ok (.iaload, 1) := by decide +kernel
theorem dX0_check_77 : decode cX0_check 77 = .ok (.iload_n 3, 1) := by decide +kernel
theorem dX0_check_78 : decode cX0_check 78 = .ok (.ixor, 1) := by decide +kernel
theorem dX0_check_79 : decode cX0_check 79 = .ok (.goto 12, 3) := by decide +kernel
theorem dX0_check_82 : decode cX0_check 82 = .ok (.aload_n 0, 1) := by decide +kernel
theorem dX0_check_83 : decode cX0_check 83 = .ok (.getfield 77, 3) := by decide +kernel
theorem dX0_check_86 : decode cX0_check 86 = .ok (.iload_n 1, 1) := by decide +kernel
theorem dX0_check_87 : decode cX0_check 87 = .ok (.aaload, 1) := by decide +kernel
theorem dX0_check_88 : decode cX0_check 88 = .ok (.iload 5, 2) := by decide +kernel
theorem dX0_check_90 : decode cX0_check 90 = .ok (.iaload, 1) := by decide +kernel
theorem dX0_check_91 : decode cX0_check 91 = .ok (.iastore, 1) := by decide +kernel
theorem dX0_check_92 : decode cX0_check 92 = .ok (.iinc 5 1, 3) := by decide +kernel
theorem dX0_check_95 : decode cX0_check 95 = .ok (.goto (-43), 3) := by decide +kernel
theorem dX0_check_98 : decode cX0_check 98 = .ok (.iload_n 1, 1) := by decide +kernel
theorem dX0_check_99 : decode cX0_check 99 = .ok (.ifCond .ne 7, 3) := by decide +kernel
theorem dX0_check_102 : decode cX0_check 102 = .ok (.iconst 0, 1) := by decide +kernel
theorem dX0_check_103 : decode cX0_check 103 = .ok (.goto 13, 3) := by decide +kernel
theorem dX0_check_106 : decode cX0_check 106 = .ok (.aload_n 0, 1) := by decide +kernel
theorem dX0_check_107 : decode cX0_check 107 = .ok (.getfield 77, 3) := by decide +kernel
theorem dX0_check_110 : decode cX0_check 110 = .ok (.iload_n 1, 1) := by decide +kernel
theorem dX0_check_111 : decode cX0_check 111 = .ok (.iconst 1, 1) := by decide +kernel
theorem dX0_check_112 : decode cX0_check 112 = .ok (.isub, 1) := by decide +kernel
theorem dX0_check_113 : decode cX0_check 113 = .ok (.aaload, 1) := by decide +kernel
theorem dX0_check_114 : decode cX0_check 114 = .ok (.iconst 0, 1) := by decide +kernel
theorem dX0_check_115 : decode cX0_check 115 = .ok (.iaload, 1) := by decide +kernel
theorem dX0_check_116 : decode cX0_check 116 = .ok (.istore 5, 2) := by decide +kernel
theorem dX0_check_118 : decode cX0_check 118 = .ok (.iload_n 1, 1) := by decide +kernel
theorem dX0_check_119 : decode cX0_check 119 = .ok (.ifCond .ne 7, 3) := by decide +kernel
theorem dX0_check_122 : decode cX0_check 122 = .ok (.iconst 0, 1) := by decide +kernel
theorem dX0_check_123 : decode cX0_check 123 = .ok (.goto 13, 3) := by decide +kernel
theorem dX0_check_126 : decode cX0_check 126 = .ok (.aload_n 0, 1) := by decide +kernel
theorem dX0_check_127 : decode cX0_check 127 = .ok (.getfield 77, 3) := by decide +kernel
theorem dX0_check_130 : decode cX0_check 130 = .ok (.iload_n 1, 1) := by decide +kernel
theorem dX0_check_131 : decode cX0_check 131 = .ok (.iconst 1, 1) := by decide +kernel
theorem dX0_check_132 : decode cX0_check 132 = .ok (.isub, 1) := by decide +kernel
theorem dX0_check_133 : decode cX0_check 133 = .ok (.aaload, 1) := by decide +kernel
theorem dX0_check_134 : decode cX0_check 134 = .ok (.iconst 1, 1) := by decide +kernel
theorem dX0_check_135 : decode cX0_check 135 = .ok (.iaload, 1) := by decide +kernel
theorem dX0_check_136 : decode cX0_check 136 = .ok (.istore 6, 2) := by decide +kernel
theorem dX0_check_138 : decode cX0_check 138 = .ok (.iload 6, 2) := by decide +kernel
theorem dX0_check_140 : decode cX0_check 140 = .ok (.i2l, 1) := by decide +kernel
theorem dX0_check_141 : decode cX0_check 141 = .ok (.aload 4, 2) := by decide +kernel
theorem dX0_check_143 : decode cX0_check 143 = .ok (.iconst 2, 1) := by decide +kernel
theorem dX0_check_144 : decode cX0_check 144 = .ok (.iaload, 1) := by decide +kernel
theorem dX0_check_145 : decode cX0_check 145 = .ok (.aload_n 0, 1) := by decide +kernel
theorem dX0_check_146 : decode cX0_check 146 = .ok (.getfield 77, 3) := by decide +kernel
theorem dX0_check_149 : decode cX0_check 149 = .ok (.iload_n 1, 1) := by decide +kernel
theorem dX0_check_150 : decode cX0_check 150 = .ok (.aaload, 1) := by decide +kernel
theorem dX0_check_151 : decode cX0_check 151 = .ok (.iconst 4, 1) := by decide +kernel
theorem dX0_check_152 : decode cX0_check 152 = .ok (.iaload, 1) := by decide +kernel
theorem dX0_check_153 : decode cX0_check 153 = .ok (.idiv, 1) := by decide +kernel
theorem dX0_check_154 : decode cX0_check 154 = .ok (.i2l, 1) := by decide +kernel
theorem dX0_check_155 : decode cX0_check 155 = .ok (.ladd, 1) := by decide +kernel
theorem dX0_check_156 : decode cX0_check 156 = .ok (.bipush 30, 2) := by decide +kernel
theorem dX0_check_158 : decode cX0_check 158 = .ok (.invokestatic 265, 3) := by decide +kernel
theorem dX0_check_161 : decode cX0_check 161 = .ok (.aload 4, 2) := by decide +kernel
theorem dX0_check_163 : decode cX0_check 163 = .ok (.iconst 1, 1) := by decide +kernel
theorem dX0_check_164 : decode cX0_check 164 = .ok (.iaload, 1) := by decide +kernel
theorem dX0_check_165 : decode cX0_check 165 = .ok (.if_icmp .eq 5, 3) := by decide +kernel
theorem dX0_check_168 : decode cX0_check 168 = .ok (.iconst 1, 1) := by decide +kernel
theorem dX0_check_169 : decode cX0_check 169 = .ok (.ireturn, 1) := by decide +kernel
theorem dX0_check_170 : decode cX0_check 170 = .ok (.iload 5, 2) := by decide +kernel
theorem dX0_check_172 : decode cX0_check 172 = .ok (.i2l, 1) := by decide +kernel
theorem dX0_check_173 : decode cX0_check 173 = .ok (.aload 4, 2) := by decide +kernel
theorem dX0_check_175 : decode cX0_check 175 = .ok (.iconst 1, 1) := by decide +kernel
theorem dX0_check_176 : decode cX0_check 176 = .ok (.iaload, 1) := by decide +kernel
theorem dX0_check_177 : decode cX0_check 177 = .ok (.i2l, 1) := by decide +kernel
theorem dX0_check_178 : decode cX0_check 178 = .ok (.ladd, 1) := by decide +kernel
theorem dX0_check_179 : decode cX0_check 179 = .ok (.bipush 80, 2) := by decide +kernel
theorem dX0_check_181 : decode cX0_check 181 = .ok (.invokestatic 265, 3) := by decide +kernel
theorem dX0_check_184 : decode cX0_check 184 = .ok (.aload 4, 2) := by decide +kernel
theorem dX0_check_186 : decode cX0_check 186 = .ok (.iconst 0, 1) := by decide +kernel
theorem dX0_check_187 : decode cX0_check 187 = .ok (.iaload, 1) := by decide +kernel
theorem dX0_check_188 : decode cX0_check 188 = .ok (.if_icmp .eq 7, 3) := by decide +kernel
theorem dX0_check_191 : decode cX0_check 191 = .ok (.iconst 2, 1) := by decide +kernel
theorem dX0_check_192 : decode cX0_check 192 = .ok (.goto 4, 3) := by decide +kernel
theorem dX0_check_195 : decode cX0_check 195 = .ok (.iconst 0, 1) := by decide +kernel
theorem dX0_check_196 : decode cX0_check 196 = .ok (.ireturn, 1) := by decide +kernel
set_option maxHeartbeats 4000000 in
theorem ccheck (l : Launch) (adK adV st : Nat → Nat) (D : va_G) (E : Nat → ClassId) (A : Nat → Prop) (ad nv : Nat → Nat) (I : Nat → Int) (F : Nat → Int → Int) (S : Nat → Nat → Int) (Y : Nat → Int → Int) (L : Nat → Nat) (t nb mk : Int) (r_t : R32 t) (r_n : R32 nb) (r_m : R32 mk) (K : Nat → Int → Int) (hKp : keptOK Y K) (ht : 0 ≤ S 19 7 ∧ S 19 7 ≤ 600) (a36 : Bd (K 36) 600 (-80) 80) (a37 : Bd (K 37) 600 (-30) 30) (a38 : Bd (K 38) 600 (-1000) 1000) (a39 : Bd (K 39) (S 19 7) 1 50) (a40 : Bd (K 40) 600 0 1) : AM l yX0_check cX0_check 7 (some .int) (amr 8 1 3) adK adV st D E A [.ref (ad 0), .int (iI t), .int (iI nb), .int (iI mk)] (cV nv F S) ad (cC E ad I F S Y L) (AQi D E A (fun z ad1 V1 C1 => checkS (S 19 7) (K 40) (K 36) (K 37) (K 38) (K 39) t nb mk = z ∧ ad = ad1 ∧ V1 = cV nv F S ∧ C1 = cC E ad I F S Y L)) 1 3 := by
  refine a_start (by decide) rfl (Nat.le_of_ble_eq_true rfl) ?_
  intro p e R s m args below meth c ls Q hR hQ hCK hml hr hlk hnme hG hS hE hA hl
  have hx := hCK.1
  have hb := hCK.2.1
  have hown := hCK.2.2.1
  have hts := hCK.2.2.2.1
  have hK := hCK.2.2.2.2
  have hl : lv_has ls 7 [(0, .ref (ad 0)), (1, .int (iI t)), (2, .int (iI nb)), (3, .int (iI mk))] := hl
  have v_mn : cV nv F S 0 := Or.inl (by decide)
  have e_mn : ad 0 = ad 0 := rfl
  have k_mn : cC E ad I F S Y L 0 = .inr (0, [.ref (ad 1), .int (iI (I 48)), (if S 0 2 = 0 then .null else .ref (ad 30)), .ref (ad 2), .ref (ad 3), .ref (ad 11), .ref (ad 12), .ref (ad 13), .ref (ad 14), .ref (ad 4), .ref (ad 5), .int (iI (I 15)), .int (iI (I 22)), .int (iI (I 23)), .int (iI (I 24)), .int (iI (I 25)), .ref (ad 19), .ref (ad 20), .ref (ad 9), .ref (ad 6), .ref (ad 7), .ref (ad 10), .int (iI (I 41)), .int (iI (I 44)), .ref (ad 8), .int (iI (I 45))]) := cC_0
  have v_sh : cV nv F S 19 := Or.inl (by decide)
  have e_sh : ad 19 = ad 19 := rfl
  have k_sh : cC E ad I F S Y L 19 = .inr (1, [.ref (ad 21), .ref (ad 22), .ref (ad 23), .ref (ad 24), .int (iI (S 19 4)), .int (iI (S 19 5)), .int (iI (S 19 6)), .int (iI (S 19 7)), .int (iI (S 19 8)), .int (iI (S 19 9)), .int (iI (S 19 10)), .int (iI (S 19 11)), .int (iI (S 19 12)), .ref (ad 0)]) := cC_s (Or.inl rfl)
  have v_kp : cV nv F S 9 := Or.inl (by decide)
  have e_kp : ad 9 = ad 9 := rfl
  have k_kp : cC E ad I F S Y L 9 = .inl (E 4, 600, ar (fun j => some (ad (1000 + j)))) := cC_9
  refine lv_iload_n hx hb dX0_check_0 rfl (lv_at hl 1 rfl) ?_
  refine r_i2l hx hb dX0_check_1 r_t ?_
  refine r_lconst hx hb 0 dX0_check_2 (by decide) ?_
  refine lv_aload_n hx hb dX0_check_3 rfl (lv_at hl 0 rfl) ?_
  refine a_get hCK hG 0 e_mn v_mn k_mn (ci := 0) rfl in_X0 16 (by decide) q221 rfl rfl dX0_check_4 ?_
  refine W.eq (g2 := F0 m 7 ls [.ref (ad 19), .long (iL 0), .long (iL t)]) rfl ?_
  refine a_getN hCK hE hG 19 e_sh v_sh k_sh (ci := 1) rfl in_X1 7 (by decide) q150 rfl rfl dX0_check_7 ?_
  refine W.eq (g2 := F0 m 10 ls [.int (iI (S 19 7)), .long (iL 0), .long (iL t)]) rfl ?_
  refine r_iconst hx hb dX0_check_10 ?_
  refine r_isub hx hb dX0_check_11 ?_
  refine r_i2l hx hb dX0_check_12 (by omega) ?_
  refine s_calli (j_runS (n := 3) (rest := []) (as := [.long (iL t), .long (iL 0), .long (iL ((S 19 7) - 1))]) hx hb hml hown hts ((cin l t 0 ((S 19 7) - 1) (by omega) (by decide) (by omega)).jm) (fun _ _ _ _ _ => trivial) (fun _ _ _ => trivial) q296 q297 q68 q298 (by decide +kernel) ⟨rfl, rfl⟩ hR ⟨Nat.le_of_ble_eq_true rfl, Nat.le_of_ble_eq_true rfl⟩ ⟨Nat.zero_le _, Nat.zero_le _⟩ rfl hl.1 rfl (Nat.le_of_ble_eq_true rfl) dX0_check_13) ?_
  refine r_ifeqB (tgt := 42) hx hb dX0_check_16 (by decide) (fun c1 => ?_) (fun c1 => ?_)
  · refine r_iconst hx hb dX0_check_42 ?_
    exact a_iret hCK hQ hr hlk hG hS (by omega) (by omega) dX0_check_43 (⟨by unfold checkS; rw [if_neg (by omega)], rfl, rfl, rfl⟩)
  · refine lv_iload_n hx hb dX0_check_19 rfl (lv_at hl 2 rfl) ?_
    refine r_i2l hx hb dX0_check_20 r_n ?_
    refine r_lconst hx hb 0 dX0_check_21 (by decide) ?_
    refine r_ldc2 hx hb 2 hown (hts _ q745) (by decide) dX0_check_22 ?_
    refine s_calli (j_runS (n := 3) (rest := []) (as := [.long (iL nb), .long (iL 0), .long (iL 2)]) hx hb hml hown hts ((cin l nb 0 2 (by omega) (by decide) (by decide)).jm) (fun _ _ _ _ _ => trivial) (fun _ _ _ => trivial) q296 q297 q68 q298 (by decide +kernel) ⟨rfl, rfl⟩ hR ⟨Nat.le_of_ble_eq_true rfl, Nat.le_of_ble_eq_true rfl⟩ ⟨Nat.zero_le _, Nat.zero_le _⟩ rfl hl.1 rfl (Nat.le_of_ble_eq_true rfl) dX0_check_25) ?_
    refine r_ifeqB (tgt := 42) hx hb dX0_check_28 (by decide) (fun c2 => ?_) (fun c2 => ?_)
    · refine r_iconst hx hb dX0_check_42 ?_
      exact a_iret hCK hQ hr hlk hG hS (by omega) (by omega) dX0_check_43 (⟨by unfold checkS; rw [if_neg (by omega)], rfl, rfl, rfl⟩)
    · have v_rw : cV nv F S (1000 + t.toNat) := Or.inr (Or.inl (by omega))
      have e_rw : ad (1000 + t.toNat) = ad (1000 + t.toNat) := rfl
      have k_rw : cC E ad I F S Y L (1000 + t.toNat) = .inl (E 0, 5, ai (Y (1000 + t.toNat))) := cC_kp2 (by omega)
      have b40 := a40 t (by omega) (by omega)
      refine lv_aload_n hx hb dX0_check_31 rfl (lv_at hl 0 rfl) ?_
      refine a_get hCK hG 0 e_mn v_mn k_mn (ci := 0) rfl in_X0 18 (by decide) q223 rfl rfl dX0_check_32 ?_
      refine W.eq (g2 := F0 m 35 ls [.ref (ad 9)]) rfl ?_
      refine lv_iload_n hx hb dX0_check_35 rfl (lv_at hl 1 rfl) ?_
      refine a_aldA (v := .ref (ad (1000 + t.toNat))) hCK hG 9 e_kp v_kp k_kp (t := 4) rfl (by decide) (by omega) rfl dX0_check_36 ?_
      refine r_iconst hx hb dX0_check_37 ?_
      refine a_ild (v := K 40 t) hCK hG (1000 + t.toNat) e_rw v_rw k_rw (by decide) (by decide) (hKp t (by omega) (by omega)).2.2.2.1 dX0_check_38 ?_
      refine r_if_ne (tgt := 44) hx hb dX0_check_39 (by decide) (by omega) (fun c3 => ?_) (fun c3 => ?_)
      · have b36 := a36 t (by omega) (by omega)
        have b37 := a37 t (by omega) (by omega)
        have b38 := a38 t (by omega) (by omega)
        have b39 := a39 t (by omega) (by omega)
        have xa := xorZ_R (K 36 t) mk
        have xb := xorZ_R (K 37 t) mk
        have xc := xorZ_R (K 38 t) mk
        have rS : R32 (if nb = 0 then xorZ (K 36 t) mk else K 36 t) := by split <;> omega
        have rP : R32 (if nb = 1 then xorZ (K 37 t) mk else K 37 t) := by split <;> omega
        have rG : R32 (if nb = 2 then xorZ (K 38 t) mk else K 38 t) := by split <;> omega
        have bp36 : 1 ≤ t → -80 ≤ K 36 (t - 1) ∧ K 36 (t - 1) ≤ 80 := fun q => a36 (t - 1) (by omega) (by omega)
        have bp37 : 1 ≤ t → -30 ≤ K 37 (t - 1) ∧ K 37 (t - 1) ≤ 30 := fun q => a37 (t - 1) (by omega) (by omega)
        have hOa : ∀ q, (q ≠ 29) → ad q = ad q := fun _ _ => rfl
        have hOc : ∀ q, (q ≠ 29) → cC E ad I F S Y L q = cC E ad I F S Y L q := fun _ _ => rfl
        refine r_iconst hx hb dX0_check_44 ?_
        refine a_newa (t := 0) (N := 3) hCK hG hS hA 29 q129 rfl rfl rfl rfl rfl (by decide) (by decide) (by rw [hR]; show _ ≤ _; (try unfold amr); (try simp only []); omega) (by rw [hR]; show _ ≤ _; (try unfold amr); (try simp only []); omega) dX0_check_45 (fun x4 ad5 C6 H e_sn k_sn oo7 hG hS oh8 => ?_)
        obtain ⟨V9, hV9⟩ : ∃ X : Nat → Prop, X = fun q => (cV nv F S) q ∨ q = 29 := ⟨_, rfl⟩
        rw [← hV9] at hG
        have v_mn : V9 0 := by rw [hV9]; exact Or.inl v_mn
        have e_mn : ad5 0 = ad 0 := (oo7 0 (by omega)).1.trans e_mn
        have k_mn : C6 0 = .inr (0, [.ref (ad 1), .int (iI (I 48)), (if S 0 2 = 0 then .null else .ref (ad 30)), .ref (ad 2), .ref (ad 3), .ref (ad 11), .ref (ad 12), .ref (ad 13), .ref (ad 14), .ref (ad 4), .ref (ad 5), .int (iI (I 15)), .int (iI (I 22)), .int (iI (I 23)), .int (iI (I 24)), .int (iI (I 25)), .ref (ad 19), .ref (ad 20), .ref (ad 9), .ref (ad 6), .ref (ad 7), .ref (ad 10), .int (iI (I 41)), .int (iI (I 44)), .ref (ad 8), .int (iI (I 45))]) := (oo7 0 (by omega)).2.trans k_mn
        have v_sh : V9 19 := by rw [hV9]; exact Or.inl v_sh
        have e_sh : ad5 19 = ad 19 := (oo7 19 (by omega)).1.trans e_sh
        have k_sh : C6 19 = .inr (1, [.ref (ad 21), .ref (ad 22), .ref (ad 23), .ref (ad 24), .int (iI (S 19 4)), .int (iI (S 19 5)), .int (iI (S 19 6)), .int (iI (S 19 7)), .int (iI (S 19 8)), .int (iI (S 19 9)), .int (iI (S 19 10)), .int (iI (S 19 11)), .int (iI (S 19 12)), .ref (ad 0)]) := (oo7 19 (by omega)).2.trans k_sh
        have v_kp : V9 9 := by rw [hV9]; exact Or.inl v_kp
        have e_kp : ad5 9 = ad 9 := (oo7 9 (by omega)).1.trans e_kp
        have k_kp : C6 9 = .inl (E 4, 600, ar (fun j => some (ad (1000 + j)))) := (oo7 9 (by omega)).2.trans k_kp
        have v_rw : V9 (1000 + t.toNat) := by rw [hV9]; exact Or.inl v_rw
        have e_rw : ad5 (1000 + t.toNat) = ad (1000 + t.toNat) := (oo7 (1000 + t.toNat) (by omega)).1.trans e_rw
        have k_rw : C6 (1000 + t.toNat) = .inl (E 0, 5, ai (Y (1000 + t.toNat))) := (oo7 (1000 + t.toNat) (by omega)).2.trans k_rw
        have v_sn : V9 29 := by rw [hV9]; exact Or.inr rfl
        have hOa : ∀ q, (q ≠ 29) → ad5 q = ad q := fun q hq => (oo7 q (by omega)).1.trans (hOa q hq)
        have hOc : ∀ q, (q ≠ 29) → C6 q = (cC E ad I F S Y L) q := fun q hq => (oo7 q (by omega)).2.trans (hOc q hq)
        refine lv_astore (lv' := [(4, .ref x4), (0, .ref (ad 0)), (1, .int (iI t)), (2, .int (iI nb)), (3, .int (iI mk))]) hx hb dX0_check_47 hl (by decide) rfl (fun ls hl => ?_)
        refine r_iconst hx hb dX0_check_49 ?_
        refine lv_istore (lv' := [(5, .int (iI 0)), (4, .ref x4), (0, .ref (ad 0)), (1, .int (iI t)), (2, .int (iI nb)), (3, .int (iI mk))]) hx hb dX0_check_50 hl (by decide) rfl (fun ls hl => ?_)
        refine lv_iload hx hb dX0_check_52 (lv_at hl 0 rfl) ?_
        refine r_iconst hx hb dX0_check_54 ?_
        refine r_icmp_ge (tgt := 98) hx hb dX0_check_55 (by decide) (by decide) (by decide) (fun c10 => absurd c10 (by decide)) (fun c10 => ?_)
        refine lv_aload hx hb dX0_check_58 (lv_at hl 1 rfl) ?_
        refine lv_iload hx hb dX0_check_60 (lv_at hl 0 rfl) ?_
        refine lv_iload hx hb dX0_check_62 (lv_at hl 0 rfl) ?_
        refine lv_iload_n hx hb dX0_check_64 rfl (lv_at hl 4 rfl) ?_
        have jn11 : W p l e R s m args below meth c H [] (0 + 1) (0 + 3) Q (F0 m 91 ls [.int (iI (if nb = 0 then xorZ (K 36 t) mk else K 36 t)), .int (iI 0), .ref x4]) := by
          refine a_ist (v := if nb = 0 then xorZ (K 36 t) mk else K 36 t) hCK hG hS 29 e_sn v_sn k_sn (by decide) (by decide) dX0_check_91 (fun C12 H locs kk13 oo14 hG hS => ?_)
          have k_sn : C12 29 = .inl (E 0, 3, ai (updZ (fun _ => 0) 0 (if nb = 0 then xorZ (K 36 t) mk else K 36 t))) := kk13
          have k_mn : C12 0 = .inr (0, [.ref (ad 1), .int (iI (I 48)), (if S 0 2 = 0 then .null else .ref (ad 30)), .ref (ad 2), .ref (ad 3), .ref (ad 11), .ref (ad 12), .ref (ad 13), .ref (ad 14), .ref (ad 4), .ref (ad 5), .int (iI (I 15)), .int (iI (I 22)), .int (iI (I 23)), .int (iI (I 24)), .int (iI (I 25)), .ref (ad 19), .ref (ad 20), .ref (ad 9), .ref (ad 6), .ref (ad 7), .ref (ad 10), .int (iI (I 41)), .int (iI (I 44)), .ref (ad 8), .int (iI (I 45))]) := (oo14 0 (by omega)).trans k_mn
          have k_sh : C12 19 = .inr (1, [.ref (ad 21), .ref (ad 22), .ref (ad 23), .ref (ad 24), .int (iI (S 19 4)), .int (iI (S 19 5)), .int (iI (S 19 6)), .int (iI (S 19 7)), .int (iI (S 19 8)), .int (iI (S 19 9)), .int (iI (S 19 10)), .int (iI (S 19 11)), .int (iI (S 19 12)), .ref (ad 0)]) := (oo14 19 (by omega)).trans k_sh
          have k_kp : C12 9 = .inl (E 4, 600, ar (fun j => some (ad (1000 + j)))) := (oo14 9 (by omega)).trans k_kp
          have k_rw : C12 (1000 + t.toNat) = .inl (E 0, 5, ai (Y (1000 + t.toNat))) := (oo14 (1000 + t.toNat) (by omega)).trans k_rw
          have hOa : ∀ q, (q ≠ 29) → ad5 q = ad q := hOa
          have hOc : ∀ q, (q ≠ 29) → C12 q = (cC E ad I F S Y L) q := fun q hq => (oo14 q (by omega)).trans (hOc q hq)
          refine lv_iinc (v := iI (0 + 1)) (lv' := [(5, .int (iI (0 + 1))), (4, .ref x4), (0, .ref (ad 0)), (1, .int (iI t)), (2, .int (iI nb)), (3, .int (iI mk))]) hx hb dX0_check_92 hl (k := 0) rfl (iI_add _ _) (by decide) rfl (fun ls hl => ?_)
          refine lv_goto (tgt := 52) hx hb dX0_check_95 (by decide) ?_
          have hl : lv_has ls 7 [(5, .int (iI 1)), (4, .ref x4), (0, .ref (ad 0)), (1, .int (iI t)), (2, .int (iI nb)), (3, .int (iI mk))] := hl
          refine lv_iload hx hb dX0_check_52 (lv_at hl 0 rfl) ?_
          refine r_iconst hx hb dX0_check_54 ?_
          refine r_icmp_ge (tgt := 98) hx hb dX0_check_55 (by decide) (by decide) (by decide) (fun c15 => absurd c15 (by decide)) (fun c15 => ?_)
          refine lv_aload hx hb dX0_check_58 (lv_at hl 1 rfl) ?_
          refine lv_iload hx hb dX0_check_60 (lv_at hl 0 rfl) ?_
          refine lv_iload hx hb dX0_check_62 (lv_at hl 0 rfl) ?_
          refine lv_iload_n hx hb dX0_check_64 rfl (lv_at hl 4 rfl) ?_
          have jn16 : W p l e R s m args below meth c H locs (0 + 1) (0 + 3) Q (F0 m 91 ls [.int (iI (if nb = 1 then xorZ (K 37 t) mk else K 37 t)), .int (iI 1), .ref x4]) := by
            refine a_ist (v := if nb = 1 then xorZ (K 37 t) mk else K 37 t) hCK hG hS 29 e_sn v_sn k_sn (by decide) (by decide) dX0_check_91 (fun C17 H locs kk18 oo19 hG hS => ?_)
            have k_sn : C17 29 = .inl (E 0, 3, ai (updZ (updZ (fun _ => 0) 0 (if nb = 0 then xorZ (K 36 t) mk else K 36 t)) 1 (if nb = 1 then xorZ (K 37 t) mk else K 37 t))) := kk18
            have k_mn : C17 0 = .inr (0, [.ref (ad 1), .int (iI (I 48)), (if S 0 2 = 0 then .null else .ref (ad 30)), .ref (ad 2), .ref (ad 3), .ref (ad 11), .ref (ad 12), .ref (ad 13), .ref (ad 14), .ref (ad 4), .ref (ad 5), .int (iI (I 15)), .int (iI (I 22)), .int (iI (I 23)), .int (iI (I 24)), .int (iI (I 25)), .ref (ad 19), .ref (ad 20), .ref (ad 9), .ref (ad 6), .ref (ad 7), .ref (ad 10), .int (iI (I 41)), .int (iI (I 44)), .ref (ad 8), .int (iI (I 45))]) := (oo19 0 (by omega)).trans k_mn
            have k_sh : C17 19 = .inr (1, [.ref (ad 21), .ref (ad 22), .ref (ad 23), .ref (ad 24), .int (iI (S 19 4)), .int (iI (S 19 5)), .int (iI (S 19 6)), .int (iI (S 19 7)), .int (iI (S 19 8)), .int (iI (S 19 9)), .int (iI (S 19 10)), .int (iI (S 19 11)), .int (iI (S 19 12)), .ref (ad 0)]) := (oo19 19 (by omega)).trans k_sh
            have k_kp : C17 9 = .inl (E 4, 600, ar (fun j => some (ad (1000 + j)))) := (oo19 9 (by omega)).trans k_kp
            have k_rw : C17 (1000 + t.toNat) = .inl (E 0, 5, ai (Y (1000 + t.toNat))) := (oo19 (1000 + t.toNat) (by omega)).trans k_rw
            have hOa : ∀ q, (q ≠ 29) → ad5 q = ad q := hOa
            have hOc : ∀ q, (q ≠ 29) → C17 q = (cC E ad I F S Y L) q := fun q hq => (oo19 q (by omega)).trans (hOc q hq)
            refine lv_iinc (v := iI (1 + 1)) (lv' := [(5, .int (iI (1 + 1))), (4, .ref x4), (0, .ref (ad 0)), (1, .int (iI t)), (2, .int (iI nb)), (3, .int (iI mk))]) hx hb dX0_check_92 hl (k := 0) rfl (iI_add _ _) (by decide) rfl (fun ls hl => ?_)
            refine lv_goto (tgt := 52) hx hb dX0_check_95 (by decide) ?_
            have hl : lv_has ls 7 [(5, .int (iI 2)), (4, .ref x4), (0, .ref (ad 0)), (1, .int (iI t)), (2, .int (iI nb)), (3, .int (iI mk))] := hl
            refine lv_iload hx hb dX0_check_52 (lv_at hl 0 rfl) ?_
            refine r_iconst hx hb dX0_check_54 ?_
            refine r_icmp_ge (tgt := 98) hx hb dX0_check_55 (by decide) (by decide) (by decide) (fun c20 => absurd c20 (by decide)) (fun c20 => ?_)
            refine lv_aload hx hb dX0_check_58 (lv_at hl 1 rfl) ?_
            refine lv_iload hx hb dX0_check_60 (lv_at hl 0 rfl) ?_
            refine lv_iload hx hb dX0_check_62 (lv_at hl 0 rfl) ?_
            refine lv_iload_n hx hb dX0_check_64 rfl (lv_at hl 4 rfl) ?_
            have jn21 : W p l e R s m args below meth c H locs (0 + 1) (0 + 3) Q (F0 m 91 ls [.int (iI (if nb = 2 then xorZ (K 38 t) mk else K 38 t)), .int (iI 2), .ref x4]) := by
              refine a_ist (v := if nb = 2 then xorZ (K 38 t) mk else K 38 t) hCK hG hS 29 e_sn v_sn k_sn (by decide) (by decide) dX0_check_91 (fun C22 H locs kk23 oo24 hG hS => ?_)
              have k_sn : C22 29 = .inl (E 0, 3, ai (updZ (updZ (updZ (fun _ => 0) 0 (if nb = 0 then xorZ (K 36 t) mk else K 36 t)) 1 (if nb = 1 then xorZ (K 37 t) mk else K 37 t)) 2 (if nb = 2 then xorZ (K 38 t) mk else K 38 t))) := kk23
              have k_mn : C22 0 = .inr (0, [.ref (ad 1), .int (iI (I 48)), (if S 0 2 = 0 then .null else .ref (ad 30)), .ref (ad 2), .ref (ad 3), .ref (ad 11), .ref (ad 12), .ref (ad 13), .ref (ad 14), .ref (ad 4), .ref (ad 5), .int (iI (I 15)), .int (iI (I 22)), .int (iI (I 23)), .int (iI (I 24)), .int (iI (I 25)), .ref (ad 19), .ref (ad 20), .ref (ad 9), .ref (ad 6), .ref (ad 7), .ref (ad 10), .int (iI (I 41)), .int (iI (I 44)), .ref (ad 8), .int (iI (I 45))]) := (oo24 0 (by omega)).trans k_mn
              have k_sh : C22 19 = .inr (1, [.ref (ad 21), .ref (ad 22), .ref (ad 23), .ref (ad 24), .int (iI (S 19 4)), .int (iI (S 19 5)), .int (iI (S 19 6)), .int (iI (S 19 7)), .int (iI (S 19 8)), .int (iI (S 19 9)), .int (iI (S 19 10)), .int (iI (S 19 11)), .int (iI (S 19 12)), .ref (ad 0)]) := (oo24 19 (by omega)).trans k_sh
              have k_kp : C22 9 = .inl (E 4, 600, ar (fun j => some (ad (1000 + j)))) := (oo24 9 (by omega)).trans k_kp
              have k_rw : C22 (1000 + t.toNat) = .inl (E 0, 5, ai (Y (1000 + t.toNat))) := (oo24 (1000 + t.toNat) (by omega)).trans k_rw
              have hOa : ∀ q, (q ≠ 29) → ad5 q = ad q := hOa
              have hOc : ∀ q, (q ≠ 29) → C22 q = (cC E ad I F S Y L) q := fun q hq => (oo24 q (by omega)).trans (hOc q hq)
              refine lv_iinc (v := iI (2 + 1)) (lv' := [(5, .int (iI (2 + 1))), (4, .ref x4), (0, .ref (ad 0)), (1, .int (iI t)), (2, .int (iI nb)), (3, .int (iI mk))]) hx hb dX0_check_92 hl (k := 0) rfl (iI_add _ _) (by decide) rfl (fun ls hl => ?_)
              refine lv_goto (tgt := 52) hx hb dX0_check_95 (by decide) ?_
              have hl : lv_has ls 7 [(5, .int (iI 3)), (4, .ref x4), (0, .ref (ad 0)), (1, .int (iI t)), (2, .int (iI nb)), (3, .int (iI mk))] := hl
              refine lv_iload hx hb dX0_check_52 (lv_at hl 0 rfl) ?_
              refine r_iconst hx hb dX0_check_54 ?_
              refine r_icmp_ge (tgt := 98) hx hb dX0_check_55 (by decide) (by decide) (by decide) (fun c25 => ?_) (fun c25 => absurd c25 (by decide))
              have rQ : -80 ≤ (if t = 0 then 0 else K 37 (t - 1)) ∧ (if t = 0 then 0 else K 37 (t - 1)) ≤ 80 := by split; decide; have := bp37 (by omega); omega
              have rW : -80 ≤ (if t = 0 then 0 else K 36 (t - 1)) ∧ (if t = 0 then 0 else K 36 (t - 1)) ≤ 80 := by split; decide; have := bp36 (by omega); omega
              refine lv_iload_n hx hb dX0_check_98 rfl (lv_at hl 3 rfl) ?_
              have jn26 : W p l e R s m args below meth c H locs (0 + 1) (0 + 3) Q (F0 m 116 ls [.int (iI (if t = 0 then 0 else K 36 (t - 1)))]) := by
                refine lv_istore (lv' := [(5, .int (iI (if t = 0 then 0 else K 36 (t - 1)))), (4, .ref x4), (0, .ref (ad 0)), (1, .int (iI t)), (2, .int (iI nb)), (3, .int (iI mk))]) hx hb dX0_check_116 hl (by decide) rfl (fun ls hl => ?_)
                refine lv_iload_n hx hb dX0_check_118 rfl (lv_at hl 3 rfl) ?_
                have jn27 : W p l e R s m args below meth c H locs (0 + 1) (0 + 3) Q (F0 m 136 ls [.int (iI (if t = 0 then 0 else K 37 (t - 1)))]) := by
                  have hq := tdiv_bd (a := if nb = 2 then xorZ (K 38 t) mk else K 38 t) (b := K 39 t) (M := 2147483648) (by omega) (by omega)
                  refine lv_istore (lv' := [(6, .int (iI (if t = 0 then 0 else K 37 (t - 1)))), (5, .int (iI (if t = 0 then 0 else K 36 (t - 1)))), (4, .ref x4), (0, .ref (ad 0)), (1, .int (iI t)), (2, .int (iI nb)), (3, .int (iI mk))]) hx hb dX0_check_136 hl (by decide) rfl (fun ls hl => ?_)
                  refine lv_iload hx hb dX0_check_138 (lv_at hl 0 rfl) ?_
                  refine r_i2l hx hb dX0_check_140 (by omega) ?_
                  refine lv_aload hx hb dX0_check_141 (lv_at hl 2 rfl) ?_
                  refine r_iconst hx hb dX0_check_143 ?_
                  refine a_ild (v := if nb = 2 then xorZ (K 38 t) mk else K 38 t) hCK hG 29 e_sn v_sn k_sn (by decide) (by decide) (by simp [updZ]) dX0_check_144 ?_
                  refine lv_aload_n hx hb dX0_check_145 rfl (lv_at hl 3 rfl) ?_
                  refine a_get hCK hG 0 e_mn v_mn k_mn (ci := 0) rfl in_X0 18 (by decide) q223 rfl rfl dX0_check_146 ?_
                  refine W.eq (g2 := F0 m 149 ls [.ref (ad 9), .int (iI (if nb = 2 then xorZ (K 38 t) mk else K 38 t)), .long (iL (if t = 0 then 0 else K 37 (t - 1)))]) rfl ?_
                  refine lv_iload_n hx hb dX0_check_149 rfl (lv_at hl 4 rfl) ?_
                  refine a_aldA (v := .ref (ad (1000 + t.toNat))) hCK hG 9 e_kp v_kp k_kp (t := 4) rfl (by decide) (by omega) rfl dX0_check_150 ?_
                  refine r_iconst hx hb dX0_check_151 ?_
                  refine a_ild (v := K 39 t) hCK hG (1000 + t.toNat) e_rw v_rw k_rw (by decide) (by decide) (hKp t (by omega) (by omega)).2.2.2.2 dX0_check_152 ?_
                  refine r_idiv hx hb dX0_check_153 rG (by omega) (by omega) ?_
                  refine r_i2l hx hb dX0_check_154 ⟨by omega, by have := tdiv_max rG b39; omega⟩ ?_
                  refine r_ladd hx hb dX0_check_155 ?_
                  refine r_bipush hx hb dX0_check_156 (by decide) ?_
                  refine s_calli (j_runS (n := 2) (rest := []) (as := [.long (iL ((if t = 0 then 0 else K 37 (t - 1)) + ((if nb = 2 then xorZ (K 38 t) mk else K 38 t).tdiv (K 39 t)))), .int (iI 30)]) hx hb hml hown hts ((cbrought l ((if t = 0 then 0 else K 37 (t - 1)) + ((if nb = 2 then xorZ (K 38 t) mk else K 38 t).tdiv (K 39 t))) 30 (by omega) (by decide)).jm) (fun _ _ _ _ _ => trivial) (fun _ _ _ => trivial) q908 q901 q68 q902 (by decide +kernel) ⟨rfl, rfl⟩ hR ⟨Nat.le_of_ble_eq_true rfl, Nat.le_of_ble_eq_true rfl⟩ ⟨(by rw [hR]; show _ ≤ _; (try unfold amr); (try simp only []); omega), (by rw [hR]; show _ ≤ _; (try unfold amr); (try simp only []); omega)⟩ rfl hl.1 rfl (Nat.le_of_ble_eq_true rfl) dX0_check_158) ?_
                  refine lv_aload hx hb dX0_check_161 (lv_at hl 2 rfl) ?_
                  refine r_iconst hx hb dX0_check_163 ?_
                  refine a_ild (v := if nb = 1 then xorZ (K 37 t) mk else K 37 t) hCK hG 29 e_sn v_sn k_sn (by decide) (by decide) (by simp [updZ]) dX0_check_164 ?_
                  have hn29 : ¬ cV nv F S 29 := by unfold cV; omega
                  refine r_icmp_eq (tgt := 170) hx hb dX0_check_165 (by decide) (by have := clampZ_bd (v := (if t = 0 then 0 else K 37 (t - 1)) + ((if nb = 2 then xorZ (K 38 t) mk else K 38 t).tdiv (K 39 t))) (m := 30) (by decide); omega) rP (fun cc => ?_) (fun cc => ?_)
                  · refine lv_iload hx hb dX0_check_170 (lv_at hl 1 rfl) ?_
                    refine r_i2l hx hb dX0_check_172 (by omega) ?_
                    refine lv_aload hx hb dX0_check_173 (lv_at hl 2 rfl) ?_
                    refine r_iconst hx hb dX0_check_175 ?_
                    refine a_ild (v := if nb = 1 then xorZ (K 37 t) mk else K 37 t) hCK hG 29 e_sn v_sn k_sn (by decide) (by decide) (by simp [updZ]) dX0_check_176 ?_
                    refine r_i2l hx hb dX0_check_177 rP ?_
                    refine r_ladd hx hb dX0_check_178 ?_
                    refine r_bipush hx hb dX0_check_179 (by decide) ?_
                    refine s_calli (j_runS (n := 2) (rest := []) (as := [.long (iL ((if t = 0 then 0 else K 36 (t - 1)) + (if nb = 1 then xorZ (K 37 t) mk else K 37 t))), .int (iI 80)]) hx hb hml hown hts ((cbrought l ((if t = 0 then 0 else K 36 (t - 1)) + (if nb = 1 then xorZ (K 37 t) mk else K 37 t)) 80 (by omega) (by decide)).jm) (fun _ _ _ _ _ => trivial) (fun _ _ _ => trivial) q908 q901 q68 q902 (by decide +kernel) ⟨rfl, rfl⟩ hR ⟨Nat.le_of_ble_eq_true rfl, Nat.le_of_ble_eq_true rfl⟩ ⟨(by rw [hR]; show _ ≤ _; (try unfold amr); (try simp only []); omega), (by rw [hR]; show _ ≤ _; (try unfold amr); (try simp only []); omega)⟩ rfl hl.1 rfl (Nat.le_of_ble_eq_true rfl) dX0_check_181) ?_
                    refine lv_aload hx hb dX0_check_184 (lv_at hl 2 rfl) ?_
                    refine r_iconst hx hb dX0_check_186 ?_
                    refine a_ild (v := if nb = 0 then xorZ (K 36 t) mk else K 36 t) hCK hG 29 e_sn v_sn k_sn (by decide) (by decide) (by simp [updZ]) dX0_check_187 ?_
                    refine r_icmp_eq (tgt := 195) hx hb dX0_check_188 (by decide) (by have := clampZ_bd (v := (if t = 0 then 0 else K 36 (t - 1)) + (if nb = 1 then xorZ (K 37 t) mk else K 37 t)) (m := 80) (by decide); omega) rS (fun cd => ?_) (fun cd => ?_)
                    · refine r_iconst hx hb dX0_check_195 ?_
                      have hG := hG.back (V := cV nv F S) (ad := ad) (C := cC E ad I F S Y L) (fun r h => by rw [hV9]; exact Or.inl h) (fun r h => hOa r (fun z => hn29 (z ▸ h))) (fun r h => hOc r (fun z => hn29 (z ▸ h)))
                      exact a_iret hCK hQ hr hlk hG hS (by omega) (by omega) dX0_check_196 (⟨by unfold checkS; rw [if_pos (by omega), if_neg (Decidable.not_not.mpr cc.symm), if_pos cd.symm], rfl, rfl, rfl⟩)
                    · refine r_iconst hx hb dX0_check_191 ?_
                      refine lv_goto (tgt := 196) hx hb dX0_check_192 (by decide) ?_
                      have hG := hG.back (V := cV nv F S) (ad := ad) (C := cC E ad I F S Y L) (fun r h => by rw [hV9]; exact Or.inl h) (fun r h => hOa r (fun z => hn29 (z ▸ h))) (fun r h => hOc r (fun z => hn29 (z ▸ h)))
                      exact a_iret hCK hQ hr hlk hG hS (by omega) (by omega) dX0_check_196 (⟨by unfold checkS; rw [if_pos (by omega), if_neg (Decidable.not_not.mpr cc.symm), if_neg (fun h => cd h.symm)], rfl, rfl, rfl⟩)
                  · refine r_iconst hx hb dX0_check_168 ?_
                    have hG := hG.back (V := cV nv F S) (ad := ad) (C := cC E ad I F S Y L) (fun r h => by rw [hV9]; exact Or.inl h) (fun r h => hOa r (fun z => hn29 (z ▸ h))) (fun r h => hOc r (fun z => hn29 (z ▸ h)))
                    exact a_iret hCK hQ hr hlk hG hS (by omega) (by omega) dX0_check_169 (⟨by unfold checkS; rw [if_pos (by omega), if_pos (fun h => cc h.symm)], rfl, rfl, rfl⟩)
                refine r_if_ne (tgt := 126) hx hb dX0_check_119 (by decide) r_t (fun c28 => ?_) (fun c28 => ?_)
                · have v_rp : V9 (1000 + (t - 1).toNat) := by rw [hV9]; exact Or.inl (Or.inr (Or.inl (by omega)))
                  have e_rp : ad5 (1000 + (t - 1).toNat) = ad (1000 + (t - 1).toNat) := hOa _ (by omega)
                  have k_rp : C22 (1000 + (t - 1).toNat) = .inl (E 0, 5, ai (Y (1000 + (t - 1).toNat))) := (hOc _ (by omega)).trans (cC_kp2 (by omega))
                  refine lv_aload_n hx hb dX0_check_126 rfl (lv_at hl 2 rfl) ?_
                  refine a_get hCK hG 0 e_mn v_mn k_mn (ci := 0) rfl in_X0 18 (by decide) q223 rfl rfl dX0_check_127 ?_
                  refine W.eq (g2 := F0 m 130 ls [.ref (ad 9)]) rfl ?_
                  refine lv_iload_n hx hb dX0_check_130 rfl (lv_at hl 3 rfl) ?_
                  refine r_iconst hx hb dX0_check_131 ?_
                  refine r_isub hx hb dX0_check_132 ?_
                  refine a_aldA (v := .ref (ad (1000 + (t - 1).toNat))) hCK hG 9 e_kp v_kp k_kp (t := 4) rfl (by decide) (by omega) rfl dX0_check_133 ?_
                  refine r_iconst hx hb dX0_check_134 ?_
                  refine a_ild (v := K 37 (t - 1)) hCK hG (1000 + (t - 1).toNat) e_rp v_rp k_rp (by decide) (by decide) (hKp (t - 1) (by omega) (by omega)).2.1 dX0_check_135 ?_
                  rw [if_neg (by omega)] at jn27
                  exact jn27
                · refine r_iconst hx hb dX0_check_122 ?_
                  refine lv_goto (tgt := 136) hx hb dX0_check_123 (by decide) ?_
                  rw [if_pos (by omega)] at jn27
                  exact jn27
              refine r_if_ne (tgt := 106) hx hb dX0_check_99 (by decide) r_t (fun c29 => ?_) (fun c29 => ?_)
              · have v_rp : V9 (1000 + (t - 1).toNat) := by rw [hV9]; exact Or.inl (Or.inr (Or.inl (by omega)))
                have e_rp : ad5 (1000 + (t - 1).toNat) = ad (1000 + (t - 1).toNat) := hOa _ (by omega)
                have k_rp : C22 (1000 + (t - 1).toNat) = .inl (E 0, 5, ai (Y (1000 + (t - 1).toNat))) := (hOc _ (by omega)).trans (cC_kp2 (by omega))
                refine lv_aload_n hx hb dX0_check_106 rfl (lv_at hl 2 rfl) ?_
                refine a_get hCK hG 0 e_mn v_mn k_mn (ci := 0) rfl in_X0 18 (by decide) q223 rfl rfl dX0_check_107 ?_
                refine W.eq (g2 := F0 m 110 ls [.ref (ad 9)]) rfl ?_
                refine lv_iload_n hx hb dX0_check_110 rfl (lv_at hl 3 rfl) ?_
                refine r_iconst hx hb dX0_check_111 ?_
                refine r_isub hx hb dX0_check_112 ?_
                refine a_aldA (v := .ref (ad (1000 + (t - 1).toNat))) hCK hG 9 e_kp v_kp k_kp (t := 4) rfl (by decide) (by omega) rfl dX0_check_113 ?_
                refine r_iconst hx hb dX0_check_114 ?_
                refine a_ild (v := K 36 (t - 1)) hCK hG (1000 + (t - 1).toNat) e_rp v_rp k_rp (by decide) (by decide) (hKp (t - 1) (by omega) (by omega)).1 dX0_check_115 ?_
                rw [if_neg (by omega)] at jn26
                exact jn26
              · refine r_iconst hx hb dX0_check_102 ?_
                refine lv_goto (tgt := 116) hx hb dX0_check_103 (by decide) ?_
                rw [if_pos (by omega)] at jn26
                exact jn26
            refine r_icmp_ne (tgt := 82) hx hb dX0_check_65 (by decide) (by decide) r_n (fun c30 => ?_) (fun c30 => ?_)
            · refine lv_aload_n hx hb dX0_check_82 rfl (lv_at hl 2 rfl) ?_
              refine a_get hCK hG 0 e_mn v_mn k_mn (ci := 0) rfl in_X0 18 (by decide) q223 rfl rfl dX0_check_83 ?_
              refine W.eq (g2 := F0 m 86 ls [.ref (ad 9), .int (iI 2), .ref x4]) rfl ?_
              refine lv_iload_n hx hb dX0_check_86 rfl (lv_at hl 3 rfl) ?_
              refine a_aldA (v := .ref (ad (1000 + t.toNat))) hCK hG 9 e_kp v_kp k_kp (t := 4) rfl (by decide) (by omega) rfl dX0_check_87 ?_
              refine lv_iload hx hb dX0_check_88 (lv_at hl 0 rfl) ?_
              refine a_ild (v := K 38 t) hCK hG (1000 + t.toNat) e_rw v_rw k_rw (by decide) (by decide) (hKp t (by omega) (by omega)).2.2.1 dX0_check_90 ?_
              rw [if_neg (by omega)] at jn21
              exact jn21
            · refine lv_aload_n hx hb dX0_check_68 rfl (lv_at hl 2 rfl) ?_
              refine a_get hCK hG 0 e_mn v_mn k_mn (ci := 0) rfl in_X0 18 (by decide) q223 rfl rfl dX0_check_69 ?_
              refine W.eq (g2 := F0 m 72 ls [.ref (ad 9), .int (iI 2), .ref x4]) rfl ?_
              refine lv_iload_n hx hb dX0_check_72 rfl (lv_at hl 3 rfl) ?_
              refine a_aldA (v := .ref (ad (1000 + t.toNat))) hCK hG 9 e_kp v_kp k_kp (t := 4) rfl (by decide) (by omega) rfl dX0_check_73 ?_
              refine lv_iload hx hb dX0_check_74 (lv_at hl 0 rfl) ?_
              refine a_ild (v := K 38 t) hCK hG (1000 + t.toNat) e_rw v_rw k_rw (by decide) (by decide) (hKp t (by omega) (by omega)).2.2.1 dX0_check_76 ?_
              refine lv_iload_n hx hb dX0_check_77 rfl (lv_at hl 5 rfl) ?_
              refine r_ixor hx hb dX0_check_78 ?_
              refine lv_goto (tgt := 91) hx hb dX0_check_79 (by decide) ?_
              rw [if_pos (by omega)] at jn21
              exact jn21
          refine r_icmp_ne (tgt := 82) hx hb dX0_check_65 (by decide) (by decide) r_n (fun c31 => ?_) (fun c31 => ?_)
          · refine lv_aload_n hx hb dX0_check_82 rfl (lv_at hl 2 rfl) ?_
            refine a_get hCK hG 0 e_mn v_mn k_mn (ci := 0) rfl in_X0 18 (by decide) q223 rfl rfl dX0_check_83 ?_
            refine W.eq (g2 := F0 m 86 ls [.ref (ad 9), .int (iI 1), .ref x4]) rfl ?_
            refine lv_iload_n hx hb dX0_check_86 rfl (lv_at hl 3 rfl) ?_
            refine a_aldA (v := .ref (ad (1000 + t.toNat))) hCK hG 9 e_kp v_kp k_kp (t := 4) rfl (by decide) (by omega) rfl dX0_check_87 ?_
            refine lv_iload hx hb dX0_check_88 (lv_at hl 0 rfl) ?_
            refine a_ild (v := K 37 t) hCK hG (1000 + t.toNat) e_rw v_rw k_rw (by decide) (by decide) (hKp t (by omega) (by omega)).2.1 dX0_check_90 ?_
            rw [if_neg (by omega)] at jn16
            exact jn16
          · refine lv_aload_n hx hb dX0_check_68 rfl (lv_at hl 2 rfl) ?_
            refine a_get hCK hG 0 e_mn v_mn k_mn (ci := 0) rfl in_X0 18 (by decide) q223 rfl rfl dX0_check_69 ?_
            refine W.eq (g2 := F0 m 72 ls [.ref (ad 9), .int (iI 1), .ref x4]) rfl ?_
            refine lv_iload_n hx hb dX0_check_72 rfl (lv_at hl 3 rfl) ?_
            refine a_aldA (v := .ref (ad (1000 + t.toNat))) hCK hG 9 e_kp v_kp k_kp (t := 4) rfl (by decide) (by omega) rfl dX0_check_73 ?_
            refine lv_iload hx hb dX0_check_74 (lv_at hl 0 rfl) ?_
            refine a_ild (v := K 37 t) hCK hG (1000 + t.toNat) e_rw v_rw k_rw (by decide) (by decide) (hKp t (by omega) (by omega)).2.1 dX0_check_76 ?_
            refine lv_iload_n hx hb dX0_check_77 rfl (lv_at hl 5 rfl) ?_
            refine r_ixor hx hb dX0_check_78 ?_
            refine lv_goto (tgt := 91) hx hb dX0_check_79 (by decide) ?_
            rw [if_pos (by omega)] at jn16
            exact jn16
        refine r_icmp_ne (tgt := 82) hx hb dX0_check_65 (by decide) (by decide) r_n (fun c32 => ?_) (fun c32 => ?_)
        · refine lv_aload_n hx hb dX0_check_82 rfl (lv_at hl 2 rfl) ?_
          refine a_get hCK hG 0 e_mn v_mn k_mn (ci := 0) rfl in_X0 18 (by decide) q223 rfl rfl dX0_check_83 ?_
          refine W.eq (g2 := F0 m 86 ls [.ref (ad 9), .int (iI 0), .ref x4]) rfl ?_
          refine lv_iload_n hx hb dX0_check_86 rfl (lv_at hl 3 rfl) ?_
          refine a_aldA (v := .ref (ad (1000 + t.toNat))) hCK hG 9 e_kp v_kp k_kp (t := 4) rfl (by decide) (by omega) rfl dX0_check_87 ?_
          refine lv_iload hx hb dX0_check_88 (lv_at hl 0 rfl) ?_
          refine a_ild (v := K 36 t) hCK hG (1000 + t.toNat) e_rw v_rw k_rw (by decide) (by decide) (hKp t (by omega) (by omega)).1 dX0_check_90 ?_
          rw [if_neg (by omega)] at jn11
          exact jn11
        · refine lv_aload_n hx hb dX0_check_68 rfl (lv_at hl 2 rfl) ?_
          refine a_get hCK hG 0 e_mn v_mn k_mn (ci := 0) rfl in_X0 18 (by decide) q223 rfl rfl dX0_check_69 ?_
          refine W.eq (g2 := F0 m 72 ls [.ref (ad 9), .int (iI 0), .ref x4]) rfl ?_
          refine lv_iload_n hx hb dX0_check_72 rfl (lv_at hl 3 rfl) ?_
          refine a_aldA (v := .ref (ad (1000 + t.toNat))) hCK hG 9 e_kp v_kp k_kp (t := 4) rfl (by decide) (by omega) rfl dX0_check_73 ?_
          refine lv_iload hx hb dX0_check_74 (lv_at hl 0 rfl) ?_
          refine a_ild (v := K 36 t) hCK hG (1000 + t.toNat) e_rw v_rw k_rw (by decide) (by decide) (hKp t (by omega) (by omega)).1 dX0_check_76 ?_
          refine lv_iload_n hx hb dX0_check_77 rfl (lv_at hl 5 rfl) ?_
          refine r_ixor hx hb dX0_check_78 ?_
          refine lv_goto (tgt := 91) hx hb dX0_check_79 (by decide) ?_
          rw [if_pos (by omega)] at jn11
          exact jn11
      · refine r_iconst hx hb dX0_check_42 ?_
        exact a_iret hCK hQ hr hlk hG hS (by omega) (by omega) dX0_check_43 (⟨by unfold checkS; rw [if_neg (by omega)], rfl, rfl, rfl⟩)
