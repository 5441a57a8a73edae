/-! THE READER: tokens -/
set_option maxRecDepth 100000

section TOK
variable {x : Int → Int} {n p : Int}
theorem tok_end (h : tF x n p = n) : tK x n p = 0 ∧ tT x n p = n ∧ kC x n p = 3 := by
  have h1 : tK x n p = 0 := by unfold tK; rw [if_pos h]
  exact ⟨h1, by unfold tT; rw [if_pos h], by unfold kC; rw [if_pos h1]⟩
theorem tok_word (h : tF x n p ≠ n) (h1 : fLe x (tF x n p) = true) : tK x n p = 2 ∧ tT x n p = rn (fLe x) n (tF x n p) ∧ kC x n p = 1 := by
  have h2 : tK x n p = 2 := by unfold tK; rw [if_neg h, if_pos h1]
  exact ⟨h2, by unfold tT; rw [if_neg h, if_pos h1], by unfold kC; rw [if_neg (by omega), if_pos h2]⟩
theorem tok_num (h : tF x n p ≠ n) (h1 : ¬ fLe x (tF x n p) = true) (h3 : fDi x (tF x n p) = true) : tK x n p = 1 ∧ tT x n p = rn (fDi x) n (tF x n p) ∧ kC x n p = 2 := by
  have h2 : tK x n p = 1 := by unfold tK; rw [if_neg h, if_neg h1, if_pos h3]
  exact ⟨h2, by unfold tT; rw [if_neg h, if_neg h1, if_pos h3], by unfold kC; rw [if_neg (by omega), if_neg (by omega), if_pos h2]⟩
theorem tok_sig (h : tF x n p ≠ n) (h1 : ¬ fLe x (tF x n p) = true) (h3 : ¬ fDi x (tF x n p) = true) (h4 : isSg (x (tF x n p))) : tK x n p = 3 ∧ tT x n p = tF x n p + 1 ∧ kC x n p = x (tF x n p) := by
  have h2 : tK x n p = 3 := by unfold tK; rw [if_neg h, if_neg h1, if_neg h3]; exact if_pos h4
  exact ⟨h2, by unfold tT; rw [if_neg h, if_neg h1, if_neg h3], by unfold kC; rw [if_neg (by omega), if_neg (by omega), if_neg (by omega), if_pos h2]⟩
theorem tok_odd (h : tF x n p ≠ n) (h1 : ¬ fLe x (tF x n p) = true) (h3 : ¬ fDi x (tF x n p) = true) (h4 : ¬ isSg (x (tF x n p))) : tK x n p = 4 ∧ tT x n p = tF x n p + 1 ∧ kC x n p = 4 := by
  have h2 : tK x n p = 4 := by unfold tK; rw [if_neg h, if_neg h1, if_neg h3]; exact if_neg h4
  exact ⟨h2, by unfold tT; rw [if_neg h, if_neg h1, if_neg h3], by unfold kC; rw [if_neg (by omega), if_neg (by omega), if_neg (by omega), if_neg (by omega)]⟩
end TOK
def numAt (x : Int → Int) (n p vl : Int) : Prop := tK x n p = 1 → vl = numC x (tF x n p) (tT x n p - tF x n p).toNat
theorem dX9_isBetween_0 : decode cX9_isBetween 0 = .ok (.iload_n 1, 1) := by decide +kernel
theorem dX9_isBetween_1 : decode cX9_isBetween 1 = .ok (.aload_n 0, 1) := by decide +kernel
theorem dX9_isBetween_2 : decode cX9_isBetween 2 = .ok (.getfield 61, 3) := by decide +kernel
theorem dX9_isBetween_5 : decode cX9_isBetween 5 = .ok (.if_icmp .ge 27, 3) := by decide +kernel
theorem dX9_isBetween_8 : decode cX9_isBetween 8 = .ok (.aload_n 0, 1) := by decide +kernel
theorem dX9_isBetween_9 : decode cX9_isBetween 9 = .ok (.getfield 57, 3) := by decide +kernel
theorem dX9_isBetween_12 : decode cX9_isBetween 12 = .ok (.iload_n 1, 1) := by decide +kernel
theorem dX9_isBetween_13 : decode cX9_isBetween 13 = .ok (.baload, 1) := by decide +kernel
theorem dX9_isBetween_14 : decode cX9_isBetween 14 = .ok (.iload_n 2, 1) := by decide +kernel
theorem dX9_isBetween_15 : decode cX9_isBetween 15 = .ok (.if_icmp .lt 17, 3) := by decide +kernel
theorem dX9_isBetween_18 : decode cX9_isBetween 18 = .ok (.aload_n 0, 1) := by decide +kernel
theorem dX9_isBetween_19 : decode cX9_isBetween 19 = .ok (.getfield 57, 3) := by decide +kernel
theorem dX9_isBetween_22 : decode cX9_isBetween 22 = .ok (.iload_n 1, 1) := by decide +kernel
theorem dX9_isBetween_23 : decode cX9_isBetween 23 = .ok (.baload, 1) := by decide +kernel
theorem dX9_isBetween_24 : decode cX9_isBetween 24 = .ok (.iload_n 3, 1) := by decide +kernel
theorem dX9_isBetween_25 : decode cX9_isBetween 25 = .ok (.if_icmp .gt 7, 3) := by decide +kernel
theorem dX9_isBetween_28 : decode cX9_isBetween 28 = .ok (.iconst 1, 1) := by decide +kernel
theorem dX9_isBetween_29 : decode cX9_isBetween 29 = .ok (.goto 4, 3) := by decide +kernel
theorem dX9_isBetween_32 : decode cX9_isBetween 32 = .ok (.iconst 0, 1) := by decide +kernel
theorem dX9_isBetween_33 : decode cX9_isBetween 33 = .ok (.ireturn, 1) := by decide +kernel
set_option maxHeartbeats 4000000 in
theorem met_bet (l : Launch) (adK adV st : Nat → Nat) (D : va_G) (E : Nat → ClassId) (A : Nat → Prop) (V : Nat → Prop) (ad : Nat → Nat) (C : Nat → va_E) (i lo hi : Int) (x : Int → Int) (n k fr to vl fa : Int) (hn : 0 ≤ n ∧ n ≤ 300) (hbx : Bd x 300 (-128) 127) (v_rd : V 6000) (k_rd : C 6000 = .inr (8, [.ref (ad 6001), .ref (ad 6002), .ref (ad 1), .int (iI n), .ref (ad 6003), .ref (ad 6005), .int (iI k), .int (iI fr), .int (iI to), .int (iI vl), .int (iI fa)])) (v_tx : V 1) (k_tx : C 1 = .inl (E 1, 300, ai x)) (hi0 : 0 ≤ i ∧ i ≤ 1000) (r_lo : R32 lo) (r_hi : R32 hi) : AM l yX9_isBetween cX9_isBetween 4 (some .boolean) (amr 0 0 0) adK adV st D E A [.ref (ad 6000), .int (iI i), .int (iI lo), .int (iI hi)] V ad C (AQi D E A (fun z ad1 V1 C1 => (if i < n ∧ lo ≤ x i ∧ x i ≤ hi then 1 else 0) = z ∧ ad = ad1 ∧ V = V1 ∧ C = C1)) 0 0 := by
  refine a_start (by decide) rfl (Nat.le_of_ble_eq_true rfl) ?_
  intro p e R s m args below meth c ls Q hR hQ hCK hml hr hlk hnme hG hS hE hA hl
  have hx := hCK.1
  have hb := hCK.2.1
  have hown := hCK.2.2.1
  have hts := hCK.2.2.2.1
  have hK := hCK.2.2.2.2
  have hl : lv_has ls 4 [(0, .ref (ad 6000)), (1, .int (iI i)), (2, .int (iI lo)), (3, .int (iI hi))] := hl
  have e_rd : ad 6000 = (ad 6000) := rfl
  have e_tx : ad 1 = (ad 1) := rfl
  refine lv_iload_n hx hb dX9_isBetween_0 rfl (lv_at hl 1 rfl) ?_
  refine lv_aload_n hx hb dX9_isBetween_1 rfl (lv_at hl 0 rfl) ?_
  refine a_get hCK hG 6000 e_rd v_rd k_rd (ci := 8) rfl in_X9 3 (by decide) q327 rfl rfl dX9_isBetween_2 ?_
  refine W.eq (g2 := F0 m 5 ls [.int (iI n), .int (iI i)]) rfl ?_
  refine r_icmp_ge (tgt := 32) hx hb dX9_isBetween_5 (by decide) (by omega) (by omega) (fun c1 => ?_) (fun c1 => ?_)
  · refine r_iconst hx hb dX9_isBetween_32 ?_
    exact a_zret hCK hQ hr hlk hG hS (by omega) (by omega) (by decide) dX9_isBetween_33 (⟨if_neg (by omega), rfl, rfl, rfl⟩)
  · have bx := hbx i (by omega) (by omega)
    refine lv_aload_n hx hb dX9_isBetween_8 rfl (lv_at hl 0 rfl) ?_
    refine a_get hCK hG 6000 e_rd v_rd k_rd (ci := 8) rfl in_X9 2 (by decide) q326 rfl rfl dX9_isBetween_9 ?_
    refine W.eq (g2 := F0 m 12 ls [.ref (ad 1)]) rfl ?_
    refine lv_iload_n hx hb dX9_isBetween_12 rfl (lv_at hl 1 rfl) ?_
    refine a_bld (v := x i) hCK hG 1 e_tx v_tx k_tx (by decide) (by omega) rfl dX9_isBetween_13 ?_
    refine lv_iload_n hx hb dX9_isBetween_14 rfl (lv_at hl 2 rfl) ?_
    refine r_icmp_lt (tgt := 32) hx hb dX9_isBetween_15 (by decide) (by omega) r_lo (fun c2 => ?_) (fun c2 => ?_)
    · refine r_iconst hx hb dX9_isBetween_32 ?_
      exact a_zret hCK hQ hr hlk hG hS (by omega) (by omega) (by decide) dX9_isBetween_33 (⟨if_neg (by omega), rfl, rfl, rfl⟩)
    · refine lv_aload_n hx hb dX9_isBetween_18 rfl (lv_at hl 0 rfl) ?_
      refine a_get hCK hG 6000 e_rd v_rd k_rd (ci := 8) rfl in_X9 2 (by decide) q326 rfl rfl dX9_isBetween_19 ?_
      refine W.eq (g2 := F0 m 22 ls [.ref (ad 1)]) rfl ?_
      refine lv_iload_n hx hb dX9_isBetween_22 rfl (lv_at hl 1 rfl) ?_
      refine a_bld (v := x i) hCK hG 1 e_tx v_tx k_tx (by decide) (by omega) rfl dX9_isBetween_23 ?_
      refine lv_iload_n hx hb dX9_isBetween_24 rfl (lv_at hl 3 rfl) ?_
      refine r_icmp_gt (tgt := 32) hx hb dX9_isBetween_25 (by decide) (by omega) r_hi (fun c3 => ?_) (fun c3 => ?_)
      · refine r_iconst hx hb dX9_isBetween_32 ?_
        exact a_zret hCK hQ hr hlk hG hS (by omega) (by omega) (by decide) dX9_isBetween_33 (⟨if_neg (by omega), rfl, rfl, rfl⟩)
      · refine r_iconst hx hb dX9_isBetween_28 ?_
        refine lv_goto (tgt := 33) hx hb dX9_isBetween_29 (by decide) ?_
        exact a_zret hCK hQ hr hlk hG hS (by omega) (by omega) (by decide) dX9_isBetween_33 (⟨if_pos (by omega), rfl, rfl, rfl⟩)
theorem dX9_next_0 : decode cX9_next 0 = .ok (.aload_n 0, 1) := by decide +kernel
theorem dX9_next_1 : decode cX9_next 1 = .ok (.aload_n 0, 1) := by decide +kernel
theorem dX9_next_2 : decode cX9_next 2 = .ok (.getfield 64, 3) := by decide +kernel
theorem dX9_next_5 : decode cX9_next 5 = .ok (.putfield 67, 3) := by decide +kernel
theorem dX9_next_8 : decode cX9_next 8 = .ok (.aload_n 0, 1) := by decide +kernel
theorem dX9_next_9 : decode cX9_next 9 = .ok (.getfield 67, 3) := by decide +kernel
theorem dX9_next_12 : decode cX9_next 12 = .ok (.aload_n 0, 1) := by decide +kernel
theorem dX9_next_13 : decode cX9_next 13 = .ok (.getfield 61, 3) := by decide +kernel
theorem dX9_next_16 : decode cX9_next 16 = .ok (.if_icmp .ge 30, 3) := by decide +kernel
theorem dX9_next_19 : decode cX9_next 19 = .ok (.aload_n 0, 1) := by decide +kernel
theorem dX9_next_20 : decode cX9_next 20 = .ok (.getfield 57, 3) := by decide +kernel
theorem dX9_next_23 : decode cX9_next 23 = .ok (.aload_n 0, 1) := by decide +kernel
theorem dX9_next_24 : decode cX9_next 24 = .ok (.getfield 67, 3) := by decide +kernel
theorem dX9_next_27 : decode cX9_next 27 = .ok (.baload, 1) := by decide +kernel
theorem dX9_next_28 : decode cX9_next 28 = .ok (.bipush 32, 2) := by decide +kernel
theorem dX9_next_30 : decode cX9_next 30 = .ok (.if_icmp .ne 16, 3) := by decide +kernel
theorem dX9_next_33 : decode cX9_next 33 = .ok (.aload_n 0, 1) := by decide +kernel
theorem dX9_next_34 : decode cX9_next 34 = .ok (.dup, 1) := by decide +kernel
theorem dX9_next_35 : decode cX9_next 35 = .ok (.getfield 67, 3) := by decide +kernel
theorem dX9_next_38 : decode cX9_next 38 = .ok (.iconst 1, 1) := by decide +kernel
theorem dX9_next_39 : decode cX9_next 39 = .ok (.iadd, 1) := by decide +kernel
theorem dX9_next_40 : decode cX9_next 40 = .ok (.putfield 67, 3) := by decide +kernel
theorem dX9_next_43 : decode cX9_next 43 = .ok (.goto (-35), 3) := by decide +kernel
theorem dX9_next_46 : decode cX9_next 46 = .ok (.aload_n 0, 1) := by decide +kernel
theorem dX9_next_47 : decode cX9_next 47 = .ok (.aload_n 0, 1) := by decide +kernel
theorem dX9_next_48 : decode cX9_next 48 = .ok (.getfield 67, 3) := by decide +kernel
theorem dX9_next_51 : decode cX9_next 51 = .ok (.putfield 64, 3) := by decide +kernel
theorem dX9_next_54 : decode cX9_next 54 = .ok (.aload_n 0, 1) := by decide +kernel
theorem dX9_next_55 : decode cX9_next 55 = .ok (.getfield 67, 3) := by decide +kernel
theorem dX9_next_58 : decode cX9_next 58 = .ok (.aload_n 0, 1) := by decide +kernel
theorem dX9_next_59 : decode cX9_next 59 = .ok (.getfield 61, 3) := by decide +kernel
theorem dX9_next_62 : decode cX9_next 62 = .ok (.if_icmp .ne 11, 3) := by decide +kernel
theorem dX9_next_65 : decode cX9_next 65 = .ok (.aload_n 0, 1) := by decide +kernel
theorem dX9_next_66 : decode cX9_next 66 = .ok (.iconst 3, 1) := by decide +kernel
theorem dX9_next_67 : decode cX9_next 67 = .ok (.putfield 70, 3) := by decide +kernel
theorem dX9_next_70 : decode cX9_next 70 = .ok (.goto 191, 3) := by decide +kernel
theorem dX9_next_73 : decode cX9_next 73 = .ok (.aload_n 0, 1) := by decide +kernel
theorem dX9_next_74 : decode cX9_next 74 = .ok (.aload_n 0, 1) := by decide +kernel
theorem dX9_next_75 : decode cX9_next 75 = .ok (.getfield 67, 3) := by decide +kernel
theorem dX9_next_78 : decode cX9_next 78 = .ok (.bipush 97, 2) := by decide +kernel
theorem dX9_next_80 : decode cX9_next 80 = .ok (.bipush 122, 2) := by decide +kernel
theorem dX9_next_82 : decode cX9_next 82 = .ok (.invokevirtual 73, 3) := by decide +kernel
theorem dX9_next_85 : decode cX9_next 85 = .ok (.ifCond .eq 36, 3) := by decide +kernel
theorem dX9_next_88 : decode cX9_next 88 = .ok (.aload_n 0, 1) := by decide +kernel
theorem dX9_next_89 : decode cX9_next 89 = .ok (.iconst 1, 1) := by decide +kernel
theorem dX9_next_90 : decode cX9_next 90 = .ok (.putfield 70, 3) := by decide +kernel
theorem dX9_next_93 : decode cX9_next 93 = .ok (.aload_n 0, 1) := by decide +kernel
theorem dX9_next_94 : decode cX9_next 94 = .ok (.aload_n 0, 1) := by decide +kernel
theorem dX9_next_95 : decode cX9_next 95 = .ok (.getfield 64, 3) := by decide +kernel
theorem dX9_next_98 : decode cX9_next 98 = .ok (.bipush 97, 2) := by decide +kernel
theorem dX9_next_100 : decode cX9_next 100 = .ok (.bipush 122, 2) := by decide +kernel
theorem dX9_next_102 : decode cX9_next 102 = .ok (.invokevirtual 73, 3) := by decide +kernel
theorem dX9_next_105 : decode cX9_next 105 = .ok (.ifCond .eq 156, 3) := by decide +kernel
theorem dX9_next_108 : decode cX9_next 108 = .ok (.aload_n 0, 1) := by decide +kernel
theorem dX9_next_109 : decode cX9_next 109 = .ok (.dup, 1) := by decide +kernel
theorem dX9_next_110 : decode cX9_next 110 = .ok (.getfield 64, 3) := by decide +kernel
theorem dX9_next_113 : decode cX9_next 113 = .ok (.iconst 1, 1) := by decide +kernel
theorem dX9_next_114 : decode cX9_next 114 = .ok (.iadd, 1) := by decide +kernel
theorem dX9_next_115 : decode cX9_next 115 = .ok (.putfield 64, 3) := by decide +kernel
theorem dX9_next_118 : decode cX9_next 118 = .ok (.goto (-25), 3) := by decide +kernel
theorem dX9_next_121 : decode cX9_next 121 = .ok (.aload_n 0, 1) := by decide +kernel
theorem dX9_next_122 : decode cX9_next 122 = .ok (.aload_n 0, 1) := by decide +kernel
theorem dX9_next_123 : decode cX9_next 123 = .ok (.getfield 67, 3) := by decide +kernel
theorem dX9_next_126 : decode cX9_next 126 = .ok (.bipush 48, 2) := by decide +kernel
theorem dX9_next_128 : decode cX9_next 128 = .ok (.bipush 57, 2) := by decide +kernel
theorem dX9_next_130 : decode cX9_next 130 = .ok (.invokevirtual 73, 3) := by decide +kernel
theorem dX9_next_133 : decode cX9_next 133 = .ok (.ifCond .eq 84, 3) := by decide +kernel
theorem dX9_next_136 : decode cX9_next 136 = .ok (.aload_n 0, 1) := by decide +kernel
theorem dX9_next_137 : decode cX9_next 137 = .ok (.iconst 2, 1) := by decide +kernel
theorem dX9_next_138 : decode cX9_next 138 = .ok (.putfield 70, 3) := by decide +kernel
theorem dX9_next_141 : decode cX9_next 141 = .ok (.aload_n 0, 1) := by decide +kernel
theorem dX9_next_142 : decode cX9_next 142 = .ok (.iconst 0, 1) := by decide +kernel
theorem dX9_next_143 : decode cX9_next 143 = .ok (.putfield 77, 3) := by decide +kernel
theorem dX9_next_146 : decode cX9_next 146 = .ok (.aload_n 0, 1) := by decide +kernel
theorem dX9_next_147 : decode cX9_next 147 = .ok (.aload_n 0, 1) := by decide +kernel
theorem dX9_next_148 : decode cX9_next 148 = .ok (.getfield 64, 3) := by decide +kernel
theorem dX9_next_151 : decode cX9_next 151 = .ok (.bipush 48, 2) := by decide +kernel
theorem dX9_next_153 : decode cX9_next 153 = .ok (.bipush 57, 2) := by decide +kernel
theorem dX9_next_155 : decode cX9_next 155 = .ok (.invokevirtual 73, 3) := by decide +kernel
theorem dX9_next_158 : decode cX9_next 158 = .ok (.ifCond .eq 103, 3) := by decide +kernel
theorem dX9_next_161 : decode cX9_next 161 = .ok (.aload_n 0, 1) := by decide +kernel
theorem dX9_next_162 : decode cX9_next 162 = .ok (.ldc 80, 2) := by decide +kernel
theorem dX9_next_164 : decode cX9_next 164 = .ok (.aload_n 0, 1) := by decide +kernel
theorem dX9_next_165 : decode cX9_next 165 = .ok (.getfield 77, 3) := by decide +kernel
theorem dX9_next_168 : decode cX9_next 168 = .ok (.ldc 81, 2) := by decide +kernel
theorem dX9_next_170 : decode cX9_next 170 = .ok (.if_icmp .le 8, 3) := by decide +kernel
theorem dX9_next_173 : decode cX9_next 173 = .ok (.ldc 80, 2) := by decide +kernel
theorem dX9_next_175 : decode cX9_next 175 = .ok (.goto 23, 3) := by decide +kernel
theorem dX9_next_178 : decode cX9_next 178 = .ok (.bipush 10, 2) := by decide +kernel
theorem dX9_next_180 : decode cX9_next 180 = .ok (.aload_n 0, 1) := by decide +kernel
theorem dX9_next_181 : decode cX9_next 181 = .ok (.getfield 77, 3) := by decide +kernel
theorem dX9_next_184 : decode cX9_next 184 = .ok (.imul, 1) := by decide +kernel
theorem dX9_next_185 : decode cX9_next 185 = .ok (.aload_n 0, 1) := by decide +kernel
theorem dX9_next_186 : decode cX9_next 186 = .ok (.getfield 57, 3) := by decide +kernel
theorem dX9_next_189 : decode cX9_next 189 = .ok (.aload_n 0, 1) := by decide +kernel
theorem dX9_next_190 : decode cX9_next 190 = .ok (.getfield 64, 3) := by decide +kernel
theorem dX9_next_193 : decode cX9_next 193 = .ok (.baload, 1) := by decide +kernel
theorem dX9_next_194 : decode cX9_next 194 = .ok (.iadd, 1) := by decide +kernel
theorem dX9_next_195 : decode cX9_next 195 = .ok (.bipush 48, 2) := by decide +kernel
theorem dX9_next_197 : decode cX9_next 197 = .ok (.isub, 1) := by decide +kernel
theorem dX9_next_198 : decode cX9_next 198 = .ok (.invokestatic 82, 3) := by decide +kernel
theorem dX9_next_201 : decode cX9_next 201 = .ok (.putfield 77, 3) := by decide +kernel
theorem dX9_next_204 : decode cX9_next 204 = .ok (.aload_n 0, 1) := by decide +kernel
theorem dX9_next_205 : decode cX9_next 205 = .ok (.dup, 1) := by decide +kernel
theorem dX9_next_206 : decode cX9_next 206 = .ok (.getfield 64, 3) := by decide +kernel
theorem dX9_next_209 : decode cX9_next 209 = .ok (.iconst 1, 1) := by decide +kernel
theorem dX9_next_210 : decode cX9_next 210 = .ok (.iadd, 1) := by decide +kernel
theorem dX9_next_211 : decode cX9_next 211 = .ok (.putfield 64, 3) := by decide +kernel
theorem dX9_next_214 : decode cX9_next 214 = .ok (.goto (-68), 3) := by decide +kernel
theorem dX9_next_217 : decode cX9_next 217 = .ok (.aload_n 0, 1) := by decide +kernel
theorem dX9_next_218 : decode cX9_next 218 = .ok (.ldc 88, 2) := by decide +kernel
theorem dX9_next_220 : decode cX9_next 220 = .ok (.aload_n 0, 1) := by decide +kernel
theorem dX9_next_221 : decode cX9_next 221 = .ok (.getfield 57, 3) := by decide +kernel
theorem dX9_next_224 : decode cX9_next 224 = .ok (.aload_n 0, 1) := by decide +kernel
theorem dX9_next_225 : decode cX9_next 225 = .ok (.getfield 67, 3) := by decide +kernel
theorem dX9_next_228 : decode cX9_next 228 = .ok (.baload, 1) := by decide +kernel
theorem dX9_next_229 : decode cX9_next 229 = .ok (.invokevirtual 90, 3) := by decide +kernel
theorem dX9_next_232 : decode cX9_next 232 = .ok (.ifCond .lt 15, 3) := by decide +kernel
theorem dX9_next_235 : decode cX9_next 235 = .ok (.aload_n 0, 1) := by decide +kernel
theorem dX9_next_236 : decode cX9_next 236 = .ok (.getfield 57, 3) := by decide +kernel
theorem dX9_next_239 : decode cX9_next 239 = .ok (.aload_n 0, 1) := by decide +kernel
theorem dX9_next_240 : decode cX9_next 240 = .ok (.getfield 67, 3) := by decide +kernel
theorem dX9_next_243 : decode cX9_next 243 = .ok (.baload, 1) := by decide +kernel
theorem dX9_next_244 : decode cX9_next 244 = .ok (.goto 4, 3) := by decide +kernel
theorem dX9_next_247 : decode cX9_next 247 = .ok (.iconst 4, 1) := by decide +kernel
theorem dX9_next_248 : decode cX9_next 248 = .ok (.putfield 70, 3) := by decide +kernel
theorem dX9_next_251 : decode cX9_next 251 = .ok (.aload_n 0, 1) := by decide +kernel
theorem dX9_next_252 : decode cX9_next 252 = .ok (.dup, 1) := by decide +kernel
theorem dX9_next_253 : decode cX9_next 253 = .ok (.getfield 64, 3) := by decide +kernel
theorem dX9_next_256 : decode cX9_next 256 = .ok (.iconst 1, 1) := by decide +kernel
theorem dX9_next_257 : decode cX9_next 257 = .ok (.iadd, 1) := by decide +kernel
theorem dX9_next_258 : decode cX9_next 258 = .ok (.putfield 64, 3) := by decide +kernel
theorem dX9_next_261 : decode cX9_next 261 = .ok (.return_, 1) := by decide +kernel
set_option maxHeartbeats 4000000 in
theorem met_rnext (l : Launch) (adK adV st : Nat → Nat) (D : va_G) (E : Nat → ClassId) (A : Nat → Prop) (V : Nat → Prop) (ad : Nat → Nat) (C : Nat → va_E) (x : Int → Int) (n k fr to vl fa : Int) (hn : 0 ≤ n ∧ n ≤ 300) (hbx : Bd x 300 (-128) 127) (v_rd : V 6000) (k_rd : C 6000 = .inr (8, [.ref (ad 6001), .ref (ad 6002), .ref (ad 1), .int (iI n), .ref (ad 6003), .ref (ad 6005), .int (iI k), .int (iI fr), .int (iI to), .int (iI vl), .int (iI fa)])) (v_tx : V 1) (k_tx : C 1 = .inl (E 1, 300, ai x)) (hto : 0 ≤ to ∧ to ≤ n) : AM l yX9_next cX9_next 1 none (amr 4 0 0) adK adV st D E A [.ref (ad 6000)] V ad C (AQv D E A (fun ad1 V1 C1 => ad = ad1 ∧ V = V1 ∧ (∃ vl1, C1 6000 = .inr (8, [.ref (ad 6001), .ref (ad 6002), .ref (ad 1), .int (iI n), .ref (ad 6003), .ref (ad 6005), .int (iI (kC x n to)), .int (iI (tF x n to)), .int (iI (tT x n to)), .int (iI vl1), .int (iI fa)]) ∧ numAt x n to vl1) ∧ ∀ q, q ≠ 6000 → C1 q = C q)) 0 0 := by
  refine a_start (by decide) rfl (Nat.le_of_ble_eq_true rfl) ?_
  intro p e R s m args below meth c ls Q hR hQ hCK hml hr hlk hnme hG hS hE hA hl
  have hx := hCK.1
  have hb := hCK.2.1
  have hown := hCK.2.2.1
  have hts := hCK.2.2.2.1
  have hK := hCK.2.2.2.2
  have hl : lv_has ls 1 [(0, .ref (ad 6000))] := hl
  have e_rd : ad 6000 = (ad 6000) := rfl
  have e_tx : ad 1 = (ad 1) := rfl
  have hOc : ∀ q, (q ≠ 6000) → C q = C q := fun _ _ => rfl
  refine lv_aload_n hx hb dX9_next_0 rfl (lv_at hl 0 rfl) ?_
  refine lv_aload_n hx hb dX9_next_1 rfl (lv_at hl 0 rfl) ?_
  refine a_get hCK hG 6000 e_rd v_rd k_rd (ci := 8) rfl in_X9 8 (by decide) q332 rfl rfl dX9_next_2 ?_
  refine W.eq (g2 := F0 m 5 ls [.int (iI to), .ref (ad 6000)]) rfl ?_
  refine a_put (tyf := tyX9) hCK hG hS 6000 e_rd v_rd k_rd (ci := 8) rfl in_X9 tyX9_ok nmX9 7 (by decide) q331 rfl rfl rfl rfl (Nat.le_of_ble_eq_true rfl) dX9_next_5 (fun C1 H locs kk2 oo3 hG hS => ?_)
  have k_rd : C1 6000 = .inr (8, [.ref (ad 6001), .ref (ad 6002), .ref (ad 1), .int (iI n), .ref (ad 6003), .ref (ad 6005), .int (iI k), .int (iI to), .int (iI to), .int (iI vl), .int (iI fa)]) := kk2
  have k_tx : C1 1 = .inl (E 1, 300, ai x) := (oo3 1 (by omega)).trans k_tx
  have hOc : ∀ q, (q ≠ 6000) → C1 q = C q := fun q hq => (oo3 q (by omega)).trans (hOc q hq)
  have loop8_4 : ∀ (nd : Nat) (r : Int) (Vg : Nat → Prop) (adg : Nat → Nat) (Cg : Nat → va_E), n - r < (nd : Int) → (Vg 6000) → (adg 6000 = (ad 6000)) → (Cg 6000 = .inr (8, [.ref (ad 6001), .ref (ad 6002), .ref (ad 1), .int (iI n), .ref (ad 6003), .ref (ad 6005), .int (iI k), .int (iI r), .int (iI to), .int (iI vl), .int (iI fa)])) → (Vg 1) → (adg 1 = (ad 1)) → (Cg 1 = .inl (E 1, 300, ai x)) → (∀ q, (q ≠ 6000) → Cg q = C q) → (to ≤ r ∧ r ≤ n) → (rn (fSp x) n r = tF x n to) → (V = Vg) → (ad = adg) → ∀ (H : Heap) (locs : List Loc) (ls : Array Slot), GW D A Vg adg Cg H → va_S A s.heap H locs → lv_has ls 1 [(0, .ref (ad 6000))] → W p l e R s m args below meth c H locs 0 0 Q (F0 m 8 ls []) := by
    intro nd
    induction nd with
    | zero => intro r Vg adg Cg hn6 v_rd e_rd k_rd v_tx e_tx k_tx hOc hrr er eV ea; exfalso; omega
    | succ nd ih5 =>
      intro r Vg adg Cg hn6 v_rd e_rd k_rd v_tx e_tx k_tx hOc hrr er eV ea H locs ls hG hS hl
      subst eV
      subst ea
      refine lv_aload_n hx hb dX9_next_8 rfl (lv_at hl 0 rfl) ?_
      refine a_get hCK hG 6000 e_rd v_rd k_rd (ci := 8) rfl in_X9 7 (by decide) q331 rfl rfl dX9_next_9 ?_
      refine W.eq (g2 := F0 m 12 ls [.int (iI r)]) rfl ?_
      refine lv_aload_n hx hb dX9_next_12 rfl (lv_at hl 0 rfl) ?_
      refine a_get hCK hG 6000 e_rd v_rd k_rd (ci := 8) rfl in_X9 3 (by decide) q327 rfl rfl dX9_next_13 ?_
      refine W.eq (g2 := F0 m 16 ls [.int (iI n), .int (iI r)]) rfl ?_
      refine r_icmp_ge (tgt := 46) hx hb dX9_next_16 (by decide) (by omega) (by omega) (fun c7 => ?_) (fun c7 => ?_)
      · have ef : r = tF x n to := by rw [← er, rn_e (by intro q; have := of_decide_eq_true q.2; omega)]
        have hbf := tF_bd x hto.2
        refine lv_aload_n hx hb dX9_next_46 rfl (lv_at hl 0 rfl) ?_
        refine lv_aload_n hx hb dX9_next_47 rfl (lv_at hl 0 rfl) ?_
        refine a_get hCK hG 6000 e_rd v_rd k_rd (ci := 8) rfl in_X9 7 (by decide) q331 rfl rfl dX9_next_48 ?_
        refine W.eq (g2 := F0 m 51 ls [.int (iI r), .ref (ad 6000)]) rfl ?_
        refine a_put (tyf := tyX9) hCK hG hS 6000 e_rd v_rd k_rd (ci := 8) rfl in_X9 tyX9_ok nmX9 8 (by decide) q332 rfl rfl rfl rfl (Nat.le_of_ble_eq_true rfl) dX9_next_51 (fun C8 H locs kk9 oo10 hG hS => ?_)
        have k_rd : C8 6000 = .inr (8, [.ref (ad 6001), .ref (ad 6002), .ref (ad 1), .int (iI n), .ref (ad 6003), .ref (ad 6005), .int (iI k), .int (iI r), .int (iI r), .int (iI vl), .int (iI fa)]) := kk9
        have k_tx : C8 1 = .inl (E 1, 300, ai x) := (oo10 1 (by omega)).trans k_tx
        have hOc : ∀ q, (q ≠ 6000) → C8 q = C q := fun q hq => (oo10 q (by omega)).trans (hOc q hq)
        refine lv_aload_n hx hb dX9_next_54 rfl (lv_at hl 0 rfl) ?_
        refine a_get hCK hG 6000 e_rd v_rd k_rd (ci := 8) rfl in_X9 7 (by decide) q331 rfl rfl dX9_next_55 ?_
        refine W.eq (g2 := F0 m 58 ls [.int (iI r)]) rfl ?_
        refine lv_aload_n hx hb dX9_next_58 rfl (lv_at hl 0 rfl) ?_
        refine a_get hCK hG 6000 e_rd v_rd k_rd (ci := 8) rfl in_X9 3 (by decide) q327 rfl rfl dX9_next_59 ?_
        refine W.eq (g2 := F0 m 62 ls [.int (iI n), .int (iI r)]) rfl ?_
        refine r_icmp_ne (tgt := 73) hx hb dX9_next_62 (by decide) (by omega) (by omega) (fun c11 => ?_) (fun c11 => ?_)
        · have hne : tF x n to ≠ n := by omega
          refine lv_aload_n hx hb dX9_next_73 rfl (lv_at hl 0 rfl) ?_
          refine lv_aload_n hx hb dX9_next_74 rfl (lv_at hl 0 rfl) ?_
          refine a_get hCK hG 6000 e_rd v_rd k_rd (ci := 8) rfl in_X9 7 (by decide) q331 rfl rfl dX9_next_75 ?_
          refine W.eq (g2 := F0 m 78 ls [.int (iI r), .ref (ad 6000)]) rfl ?_
          refine r_bipush hx hb dX9_next_78 (by decide) ?_
          refine r_bipush hx hb dX9_next_80 (by decide) ?_
          refine a_calli (a_runV (n := 3) (C0 := RX9) (b := (ad 6000)) (rest := []) (as := [.int (iI r), .int (iI 97), .int (iI 122)]) hCK hE hA hml (met_bet l adK adV st D E A V ad C8 r 97 122 x n k r r vl fa hn hbx v_rd k_rd v_tx k_tx (by omega) (by decide) (by decide)) (by have h := g_rec (r := 6000) (ci := 8) hK hG v_rd rfl k_rd; rw [e_rd] at h; exact h) q367 q369 qs2 q86 q370 (by decide +kernel) ⟨rfl, rfl⟩ hR ⟨Nat.le_of_ble_eq_true rfl, Nat.le_of_ble_eq_true rfl⟩ ⟨(by rw [hR]; show _ ≤ _; (try unfold amr); (try simp only []); omega), (by rw [hR]; show _ ≤ _; (try unfold amr); (try simp only []); omega)⟩ hG hS rfl hl.1 rfl (Nat.le_of_ble_eq_true rfl) dX9_next_82) hS (fun z12 ad13 V14 C15 H locs hp16 hG hS => ?_)
          obtain ⟨rfl, rfl, rfl, rfl⟩ := hp16
          refine W.eq (g2 := F0 m 85 ls [.int (iI (if r < n ∧ 97 ≤ x r ∧ x r ≤ 122 then 1 else 0))]) rfl ?_
          refine r_ifeqB (tgt := 121) hx hb dX9_next_85 (by decide) (fun c17 => ?_) (fun c17 => ?_)
          · have hl1 : ¬ fLe x (tF x n to) = true := by rw [← ef]; intro q; have := of_decide_eq_true q; omega
            refine lv_aload_n hx hb dX9_next_121 rfl (lv_at hl 0 rfl) ?_
            refine lv_aload_n hx hb dX9_next_122 rfl (lv_at hl 0 rfl) ?_
            refine a_get hCK hG 6000 e_rd v_rd k_rd (ci := 8) rfl in_X9 7 (by decide) q331 rfl rfl dX9_next_123 ?_
            refine W.eq (g2 := F0 m 126 ls [.int (iI r), .ref (ad 6000)]) rfl ?_
            refine r_bipush hx hb dX9_next_126 (by decide) ?_
            refine r_bipush hx hb dX9_next_128 (by decide) ?_
            refine a_calli (a_runV (n := 3) (C0 := RX9) (b := (ad 6000)) (rest := []) (as := [.int (iI r), .int (iI 48), .int (iI 57)]) hCK hE hA hml (met_bet l adK adV st D E A V ad C8 r 48 57 x n k r r vl fa hn hbx v_rd k_rd v_tx k_tx (by omega) (by decide) (by decide)) (by have h := g_rec (r := 6000) (ci := 8) hK hG v_rd rfl k_rd; rw [e_rd] at h; exact h) q367 q369 qs2 q86 q370 (by decide +kernel) ⟨rfl, rfl⟩ hR ⟨Nat.le_of_ble_eq_true rfl, Nat.le_of_ble_eq_true rfl⟩ ⟨(by rw [hR]; show _ ≤ _; (try unfold amr); (try simp only []); omega), (by rw [hR]; show _ ≤ _; (try unfold amr); (try simp only []); omega)⟩ hG hS rfl hl.1 rfl (Nat.le_of_ble_eq_true rfl) dX9_next_130) hS (fun z18 ad19 V20 C21 H locs hp22 hG hS => ?_)
            obtain ⟨rfl, rfl, rfl, rfl⟩ := hp22
            refine W.eq (g2 := F0 m 133 ls [.int (iI (if r < n ∧ 48 ≤ x r ∧ x r ≤ 57 then 1 else 0))]) rfl ?_
            refine r_ifeqB (tgt := 217) hx hb dX9_next_133 (by decide) (fun c23 => ?_) (fun c23 => ?_)
            · have hd1 : ¬ fDi x (tF x n to) = true := by rw [← ef]; intro q; have := of_decide_eq_true q; omega
              have bx := hbx r (by omega) (by omega)
              have hix := sIx_10 (c := x r) bx
              have hib := sIx_bd (c := x r)
              refine lv_aload_n hx hb dX9_next_217 rfl (lv_at hl 0 rfl) ?_
              refine e_str hx hb hE (i := 10) rfl hown dX9_next_218 ?_
              refine lv_aload_n hx hb dX9_next_220 rfl (lv_at hl 0 rfl) ?_
              refine a_get hCK hG 6000 e_rd v_rd k_rd (ci := 8) rfl in_X9 2 (by decide) q326 rfl rfl dX9_next_221 ?_
              refine W.eq (g2 := F0 m 224 ls [.ref (ad 1), .ref (adK 10), .ref (ad 6000)]) rfl ?_
              refine lv_aload_n hx hb dX9_next_224 rfl (lv_at hl 0 rfl) ?_
              refine a_get hCK hG 6000 e_rd v_rd k_rd (ci := 8) rfl in_X9 7 (by decide) q331 rfl rfl dX9_next_225 ?_
              refine W.eq (g2 := F0 m 228 ls [.int (iI r), .ref (ad 1), .ref (adK 10), .ref (ad 6000)]) rfl ?_
              refine a_bld (v := x r) hCK hG 1 e_tx v_tx k_tx (by decide) (by omega) rfl dX9_next_228 ?_
              refine s_calli (j_runV (n := 1) (C := RJ8) (b := adK 10) (rest := [.ref (ad 6000)]) (as := [.int (iI (x r))]) hx hb hml hown hts (met_indexOf l adK adV st A 10 (x r) (by decide) (by omega)) EV.blind (hE.at hS) (e_rec hE hS (by decide)) q377 q378 q379 q87 q380 (by decide +kernel) ⟨rfl, rfl⟩ hR ⟨Nat.le_of_ble_eq_true rfl, Nat.le_of_ble_eq_true rfl⟩ ⟨(by rw [hR]; show _ ≤ _; (try unfold amr); (try simp only []); omega), (by rw [hR]; show _ ≤ _; (try unfold amr); (try simp only []); omega)⟩ rfl hl.1 rfl (Nat.le_of_ble_eq_true rfl) dX9_next_229) ?_
              refine r_if_lt (tgt := 247) hx hb dX9_next_232 (by decide) (by omega) (fun c24 => ?_) (fun c24 => ?_)
              · have t1 := tok_odd hne hl1 hd1 (by rw [← ef]; intro q; have := hix.mpr q; omega)
                refine r_iconst hx hb dX9_next_247 ?_
                refine a_put (tyf := tyX9) hCK hG hS 6000 e_rd v_rd k_rd (ci := 8) rfl in_X9 tyX9_ok nmX9 6 (by decide) q330 rfl rfl rfl rfl (Nat.le_of_ble_eq_true rfl) dX9_next_248 (fun C25 H locs kk26 oo27 hG hS => ?_)
                have k_rd : C25 6000 = .inr (8, [.ref (ad 6001), .ref (ad 6002), .ref (ad 1), .int (iI n), .ref (ad 6003), .ref (ad 6005), .int (iI 4), .int (iI r), .int (iI r), .int (iI vl), .int (iI fa)]) := kk26
                have k_tx : C25 1 = .inl (E 1, 300, ai x) := (oo27 1 (by omega)).trans k_tx
                have hOc : ∀ q, (q ≠ 6000) → C25 q = C q := fun q hq => (oo27 q (by omega)).trans (hOc q hq)
                refine lv_aload_n hx hb dX9_next_251 rfl (lv_at hl 0 rfl) ?_
                refine lv_dup hx hb dX9_next_252 rfl ?_
                refine a_get hCK hG 6000 e_rd v_rd k_rd (ci := 8) rfl in_X9 8 (by decide) q332 rfl rfl dX9_next_253 ?_
                refine W.eq (g2 := F0 m 256 ls [.int (iI r), .ref (ad 6000)]) rfl ?_
                refine r_iconst hx hb dX9_next_256 ?_
                refine r_iadd hx hb dX9_next_257 ?_
                refine a_put (tyf := tyX9) hCK hG hS 6000 e_rd v_rd k_rd (ci := 8) rfl in_X9 tyX9_ok nmX9 8 (by decide) q332 rfl rfl rfl rfl (Nat.le_of_ble_eq_true rfl) dX9_next_258 (fun C28 H locs kk29 oo30 hG hS => ?_)
                have k_rd : C28 6000 = .inr (8, [.ref (ad 6001), .ref (ad 6002), .ref (ad 1), .int (iI n), .ref (ad 6003), .ref (ad 6005), .int (iI 4), .int (iI r), .int (iI (r + 1)), .int (iI vl), .int (iI fa)]) := kk29
                have k_tx : C28 1 = .inl (E 1, 300, ai x) := (oo30 1 (by omega)).trans k_tx
                have hOc : ∀ q, (q ≠ 6000) → C28 q = C q := fun q hq => (oo30 q (by omega)).trans (hOc q hq)
                exact a_vret hCK hQ hr hlk hG hS (by omega) (by omega) dX9_next_261 (⟨rfl, rfl, ⟨vl, by rw [k_rd, t1.2.2, t1.2.1, ← ef], fun h => absurd (t1.1.symm.trans h) (by decide)⟩, hOc⟩)
              · have t1 := tok_sig hne hl1 hd1 (by rw [← ef]; exact hix.mp (by omega))
                refine lv_aload_n hx hb dX9_next_235 rfl (lv_at hl 0 rfl) ?_
                refine a_get hCK hG 6000 e_rd v_rd k_rd (ci := 8) rfl in_X9 2 (by decide) q326 rfl rfl dX9_next_236 ?_
                refine W.eq (g2 := F0 m 239 ls [.ref (ad 1), .ref (ad 6000)]) rfl ?_
                refine lv_aload_n hx hb dX9_next_239 rfl (lv_at hl 0 rfl) ?_
                refine a_get hCK hG 6000 e_rd v_rd k_rd (ci := 8) rfl in_X9 7 (by decide) q331 rfl rfl dX9_next_240 ?_
                refine W.eq (g2 := F0 m 243 ls [.int (iI r), .ref (ad 1), .ref (ad 6000)]) rfl ?_
                refine a_bld (v := x r) hCK hG 1 e_tx v_tx k_tx (by decide) (by omega) rfl dX9_next_243 ?_
                refine lv_goto (tgt := 248) hx hb dX9_next_244 (by decide) ?_
                refine a_put (tyf := tyX9) hCK hG hS 6000 e_rd v_rd k_rd (ci := 8) rfl in_X9 tyX9_ok nmX9 6 (by decide) q330 rfl rfl rfl rfl (Nat.le_of_ble_eq_true rfl) dX9_next_248 (fun C31 H locs kk32 oo33 hG hS => ?_)
                have k_rd : C31 6000 = .inr (8, [.ref (ad 6001), .ref (ad 6002), .ref (ad 1), .int (iI n), .ref (ad 6003), .ref (ad 6005), .int (iI (x r)), .int (iI r), .int (iI r), .int (iI vl), .int (iI fa)]) := kk32
                have k_tx : C31 1 = .inl (E 1, 300, ai x) := (oo33 1 (by omega)).trans k_tx
                have hOc : ∀ q, (q ≠ 6000) → C31 q = C q := fun q hq => (oo33 q (by omega)).trans (hOc q hq)
                refine lv_aload_n hx hb dX9_next_251 rfl (lv_at hl 0 rfl) ?_
                refine lv_dup hx hb dX9_next_252 rfl ?_
                refine a_get hCK hG 6000 e_rd v_rd k_rd (ci := 8) rfl in_X9 8 (by decide) q332 rfl rfl dX9_next_253 ?_
                refine W.eq (g2 := F0 m 256 ls [.int (iI r), .ref (ad 6000)]) rfl ?_
                refine r_iconst hx hb dX9_next_256 ?_
                refine r_iadd hx hb dX9_next_257 ?_
                refine a_put (tyf := tyX9) hCK hG hS 6000 e_rd v_rd k_rd (ci := 8) rfl in_X9 tyX9_ok nmX9 8 (by decide) q332 rfl rfl rfl rfl (Nat.le_of_ble_eq_true rfl) dX9_next_258 (fun C34 H locs kk35 oo36 hG hS => ?_)
                have k_rd : C34 6000 = .inr (8, [.ref (ad 6001), .ref (ad 6002), .ref (ad 1), .int (iI n), .ref (ad 6003), .ref (ad 6005), .int (iI (x r)), .int (iI r), .int (iI (r + 1)), .int (iI vl), .int (iI fa)]) := kk35
                have k_tx : C34 1 = .inl (E 1, 300, ai x) := (oo36 1 (by omega)).trans k_tx
                have hOc : ∀ q, (q ≠ 6000) → C34 q = C q := fun q hq => (oo36 q (by omega)).trans (hOc q hq)
                exact a_vret hCK hQ hr hlk hG hS (by omega) (by omega) dX9_next_261 (⟨rfl, rfl, ⟨vl, by rw [k_rd, t1.2.2, t1.2.1, ← ef], fun h => absurd (t1.1.symm.trans h) (by decide)⟩, hOc⟩)
            · have hd1 : fDi x (tF x n to) = true := decide_eq_true (by rw [← ef]; omega)
              have t1 := tok_num hne hl1 hd1
              refine lv_aload_n hx hb dX9_next_136 rfl (lv_at hl 0 rfl) ?_
              refine r_iconst hx hb dX9_next_137 ?_
              refine a_put (tyf := tyX9) hCK hG hS 6000 e_rd v_rd k_rd (ci := 8) rfl in_X9 tyX9_ok nmX9 6 (by decide) q330 rfl rfl rfl rfl (Nat.le_of_ble_eq_true rfl) dX9_next_138 (fun C37 H locs kk38 oo39 hG hS => ?_)
              have k_rd : C37 6000 = .inr (8, [.ref (ad 6001), .ref (ad 6002), .ref (ad 1), .int (iI n), .ref (ad 6003), .ref (ad 6005), .int (iI 2), .int (iI r), .int (iI r), .int (iI vl), .int (iI fa)]) := kk38
              have k_tx : C37 1 = .inl (E 1, 300, ai x) := (oo39 1 (by omega)).trans k_tx
              have hOc : ∀ q, (q ≠ 6000) → C37 q = C q := fun q hq => (oo39 q (by omega)).trans (hOc q hq)
              refine lv_aload_n hx hb dX9_next_141 rfl (lv_at hl 0 rfl) ?_
              refine r_iconst hx hb dX9_next_142 ?_
              refine a_put (tyf := tyX9) hCK hG hS 6000 e_rd v_rd k_rd (ci := 8) rfl in_X9 tyX9_ok nmX9 9 (by decide) q333 rfl rfl rfl rfl (Nat.le_of_ble_eq_true rfl) dX9_next_143 (fun C40 H locs kk41 oo42 hG hS => ?_)
              have k_rd : C40 6000 = .inr (8, [.ref (ad 6001), .ref (ad 6002), .ref (ad 1), .int (iI n), .ref (ad 6003), .ref (ad 6005), .int (iI 2), .int (iI r), .int (iI r), .int (iI 0), .int (iI fa)]) := kk41
              have k_tx : C40 1 = .inl (E 1, 300, ai x) := (oo42 1 (by omega)).trans k_tx
              have hOc : ∀ q, (q ≠ 6000) → C40 q = C q := fun q hq => (oo42 q (by omega)).trans (hOc q hq)
              have loop146_43 : ∀ (nd : Nat) (u : Int) (Vg : Nat → Prop) (adg : Nat → Nat) (Cg : Nat → va_E), n - u < (nd : Int) → (Vg 6000) → (adg 6000 = (ad 6000)) → (Cg 6000 = .inr (8, [.ref (ad 6001), .ref (ad 6002), .ref (ad 1), .int (iI n), .ref (ad 6003), .ref (ad 6005), .int (iI 2), .int (iI r), .int (iI u), .int (iI (numC x r (u - r).toNat)), .int (iI fa)])) → (Vg 1) → (adg 1 = (ad 1)) → (Cg 1 = .inl (E 1, 300, ai x)) → (∀ q, (q ≠ 6000) → Cg q = C q) → (r ≤ u ∧ u ≤ n) → (rn (fDi x) n u = rn (fDi x) n r) → (∀ j : Nat, j < (u - r).toNat → 48 ≤ x (r + j) ∧ x (r + j) ≤ 57) → (V = Vg) → (ad = adg) → ∀ (H : Heap) (locs : List Loc) (ls : Array Slot), GW D A Vg adg Cg H → va_S A s.heap H locs → lv_has ls 1 [(0, .ref (ad 6000))] → W p l e R s m args below meth c H locs (0 + 0 + 0) (0 + 0 + 0) Q (F0 m 146 ls []) := by
                intro nd
                induction nd with
                | zero => intro u Vg adg Cg hn45 v_rd e_rd k_rd v_tx e_tx k_tx hOc hu eu hdig eV ea; exfalso; omega
                | succ nd ih44 =>
                  intro u Vg adg Cg hn45 v_rd e_rd k_rd v_tx e_tx k_tx hOc hu eu hdig eV ea H locs ls hG hS hl
                  subst eV
                  subst ea
                  refine lv_aload_n hx hb dX9_next_146 rfl (lv_at hl 0 rfl) ?_
                  refine lv_aload_n hx hb dX9_next_147 rfl (lv_at hl 0 rfl) ?_
                  refine a_get hCK hG 6000 e_rd v_rd k_rd (ci := 8) rfl in_X9 8 (by decide) q332 rfl rfl dX9_next_148 ?_
                  refine W.eq (g2 := F0 m 151 ls [.int (iI u), .ref (ad 6000)]) rfl ?_
                  refine r_bipush hx hb dX9_next_151 (by decide) ?_
                  refine r_bipush hx hb dX9_next_153 (by decide) ?_
                  refine a_calli (a_runV (n := 3) (C0 := RX9) (b := (ad 6000)) (rest := []) (as := [.int (iI u), .int (iI 48), .int (iI 57)]) hCK hE hA hml (met_bet l adK adV st D E A V ad Cg u 48 57 x n 2 r u (numC x r (u - r).toNat) fa hn hbx v_rd k_rd v_tx k_tx (by omega) (by decide) (by decide)) (by have h := g_rec (r := 6000) (ci := 8) hK hG v_rd rfl k_rd; rw [e_rd] at h; exact h) q367 q369 qs2 q86 q370 (by decide +kernel) ⟨rfl, rfl⟩ hR ⟨Nat.le_of_ble_eq_true rfl, Nat.le_of_ble_eq_true rfl⟩ ⟨(by rw [hR]; show _ ≤ _; (try unfold amr); (try simp only []); omega), (by rw [hR]; show _ ≤ _; (try unfold amr); (try simp only []); omega)⟩ hG hS rfl hl.1 rfl (Nat.le_of_ble_eq_true rfl) dX9_next_155) hS (fun z46 ad47 V48 C49 H locs hp50 hG hS => ?_)
                  obtain ⟨rfl, rfl, rfl, rfl⟩ := hp50
                  refine W.eq (g2 := F0 m 158 ls [.int (iI (if u < n ∧ 48 ≤ x u ∧ x u ≤ 57 then 1 else 0))]) rfl ?_
                  refine r_ifeqB (tgt := 261) hx hb dX9_next_158 (by decide) (fun c51 => ?_) (fun c51 => ?_)
                  · have et : u = tT x n to := by rw [t1.2.1, ← ef, ← eu, rn_e (by intro q; have := of_decide_eq_true q.2; omega)]
                    exact a_vret hCK hQ hr hlk hG hS (by omega) (by omega) dX9_next_261 (⟨rfl, rfl, ⟨numC x r (u - r).toNat, by rw [k_rd, t1.2.2, ← ef, et], fun _ => by rw [← ef, ← et]⟩, hOc⟩)
                  · have bx := hbx u (by omega) (by omega)
                    have hd := (num_rel x r (u - r).toNat hdig).2.1
                    refine lv_aload_n hx hb dX9_next_161 rfl (lv_at hl 0 rfl) ?_
                    refine r_ldc hx hb 1000000 hown (hts _ q371) (by decide) dX9_next_162 ?_
                    refine lv_aload_n hx hb dX9_next_164 rfl (lv_at hl 0 rfl) ?_
                    refine a_get hCK hG 6000 e_rd v_rd k_rd (ci := 8) rfl in_X9 9 (by decide) q333 rfl rfl dX9_next_165 ?_
                    refine W.eq (g2 := F0 m 168 ls [.int (iI (numC x r (u - r).toNat)), .int (iI 1000000), .ref (ad 6000)]) rfl ?_
                    refine r_ldc hx hb 100000 hown (hts _ q372) (by decide) dX9_next_168 ?_
                    have jn52 : W p l e R s m args below meth c H locs (0 + 0 + 0 + 0) (0 + 0 + 0 + 0) Q (F0 m 198 ls [.int (iI (if 100000 < numC x r (u - r).toNat then 1000000 else 10 * numC x r (u - r).toNat + x u - 48)), .int (iI 1000000), .ref (ad 6000)]) := by
                      refine s_calli (j_runS (n := 2) (rest := [.ref (ad 6000)]) (as := [.int (iI 1000000), .int (iI (if 100000 < numC x r (u - r).toNat then 1000000 else 10 * numC x r (u - r).toNat + x u - 48))]) hx hb hml hown hts ((met_min l 1000000 (if 100000 < numC x r (u - r).toNat then 1000000 else 10 * numC x r (u - r).toNat + x u - 48) (by decide) (by split <;> omega)).jm) (fun _ _ _ _ _ => trivial) (fun _ _ _ => trivial) q373 q374 q76 q375 (by decide +kernel) ⟨rfl, rfl⟩ hR ⟨Nat.le_of_ble_eq_true rfl, Nat.le_of_ble_eq_true rfl⟩ ⟨(by rw [hR]; show _ ≤ _; (try unfold amr); (try simp only []); omega), (by rw [hR]; show _ ≤ _; (try unfold amr); (try simp only []); omega)⟩ rfl hl.1 rfl (Nat.le_of_ble_eq_true rfl) dX9_next_198) ?_
                      obtain ⟨nv, h_nv⟩ : ∃ xN : Int, xN = if (if 100000 < numC x r (u - r).toNat then 1000000 else 10 * numC x r (u - r).toNat + x u - 48) < 1000000 then (if 100000 < numC x r (u - r).toNat then 1000000 else 10 * numC x r (u - r).toNat + x u - 48) else 1000000 := ⟨_, rfl⟩
                      refine W.eq (g2 := F0 m 201 ls [.int (iI nv), .ref (ad 6000)]) (by subst h_nv; rfl) ?_
                      have e_nv : nv = numC x r (u + 1 - r).toNat := by rw [h_nv, show u + 1 - r = (u - r) + 1 by omega, numC_s x r (by omega), show r + (u - r) = u by omega]; repeat (first | omega | split)
                      clear h_nv
                      subst e_nv
                      refine a_put (tyf := tyX9) hCK hG hS 6000 e_rd v_rd k_rd (ci := 8) rfl in_X9 tyX9_ok nmX9 9 (by decide) q333 rfl rfl rfl rfl (Nat.le_of_ble_eq_true rfl) dX9_next_201 (fun C53 H locs kk54 oo55 hG hS => ?_)
                      have k_rd : C53 6000 = .inr (8, [.ref (ad 6001), .ref (ad 6002), .ref (ad 1), .int (iI n), .ref (ad 6003), .ref (ad 6005), .int (iI 2), .int (iI r), .int (iI u), .int (iI (numC x r (u + 1 - r).toNat)), .int (iI fa)]) := kk54
                      have k_tx : C53 1 = .inl (E 1, 300, ai x) := (oo55 1 (by omega)).trans k_tx
                      have hOc : ∀ q, (q ≠ 6000) → C53 q = C q := fun q hq => (oo55 q (by omega)).trans (hOc q hq)
                      refine lv_aload_n hx hb dX9_next_204 rfl (lv_at hl 0 rfl) ?_
                      refine lv_dup hx hb dX9_next_205 rfl ?_
                      refine a_get hCK hG 6000 e_rd v_rd k_rd (ci := 8) rfl in_X9 8 (by decide) q332 rfl rfl dX9_next_206 ?_
                      refine W.eq (g2 := F0 m 209 ls [.int (iI u), .ref (ad 6000)]) rfl ?_
                      refine r_iconst hx hb dX9_next_209 ?_
                      refine r_iadd hx hb dX9_next_210 ?_
                      refine a_put (tyf := tyX9) hCK hG hS 6000 e_rd v_rd k_rd (ci := 8) rfl in_X9 tyX9_ok nmX9 8 (by decide) q332 rfl rfl rfl rfl (Nat.le_of_ble_eq_true rfl) dX9_next_211 (fun C56 H locs kk57 oo58 hG hS => ?_)
                      have k_rd : C56 6000 = .inr (8, [.ref (ad 6001), .ref (ad 6002), .ref (ad 1), .int (iI n), .ref (ad 6003), .ref (ad 6005), .int (iI 2), .int (iI r), .int (iI (u + 1)), .int (iI (numC x r (u + 1 - r).toNat)), .int (iI fa)]) := kk57
                      have k_tx : C56 1 = .inl (E 1, 300, ai x) := (oo58 1 (by omega)).trans k_tx
                      have hOc : ∀ q, (q ≠ 6000) → C56 q = C q := fun q hq => (oo58 q (by omega)).trans (hOc q hq)
                      refine lv_goto (tgt := 146) hx hb dX9_next_214 (by decide) ?_
                      exact ih44 (u + 1) V ad C56 (by omega) v_rd e_rd k_rd v_tx e_tx k_tx hOc (by omega) (by rw [← eu]; exact (rn_s (f := fDi x) (by omega) (decide_eq_true (by omega))).symm) (by intro j hj; by_cases cj : j = (u - r).toNat; rw [show r + (j : Int) = u by omega]; omega; exact hdig j (by omega)) rfl rfl _ _ _ hG hS (lv_sub hl [0] rfl)
                    refine r_icmp_le (tgt := 178) hx hb dX9_next_170 (by decide) (by omega) (by decide) (fun c59 => ?_) (fun c59 => ?_)
                    · refine r_bipush hx hb dX9_next_178 (by decide) ?_
                      refine lv_aload_n hx hb dX9_next_180 rfl (lv_at hl 0 rfl) ?_
                      refine a_get hCK hG 6000 e_rd v_rd k_rd (ci := 8) rfl in_X9 9 (by decide) q333 rfl rfl dX9_next_181 ?_
                      refine W.eq (g2 := F0 m 184 ls [.int (iI (numC x r (u - r).toNat)), .int (iI 10), .int (iI 1000000), .ref (ad 6000)]) rfl ?_
                      refine r_imul hx hb dX9_next_184 ?_
                      refine lv_aload_n hx hb dX9_next_185 rfl (lv_at hl 0 rfl) ?_
                      refine a_get hCK hG 6000 e_rd v_rd k_rd (ci := 8) rfl in_X9 2 (by decide) q326 rfl rfl dX9_next_186 ?_
                      refine W.eq (g2 := F0 m 189 ls [.ref (ad 1), .int (iI (10 * (numC x r (u - r).toNat))), .int (iI 1000000), .ref (ad 6000)]) rfl ?_
                      refine lv_aload_n hx hb dX9_next_189 rfl (lv_at hl 0 rfl) ?_
                      refine a_get hCK hG 6000 e_rd v_rd k_rd (ci := 8) rfl in_X9 8 (by decide) q332 rfl rfl dX9_next_190 ?_
                      refine W.eq (g2 := F0 m 193 ls [.int (iI u), .ref (ad 1), .int (iI (10 * (numC x r (u - r).toNat))), .int (iI 1000000), .ref (ad 6000)]) rfl ?_
                      refine a_bld (v := x u) hCK hG 1 e_tx v_tx k_tx (by decide) (by omega) rfl dX9_next_193 ?_
                      refine r_iadd hx hb dX9_next_194 ?_
                      refine r_bipush hx hb dX9_next_195 (by decide) ?_
                      refine r_isub hx hb dX9_next_197 ?_
                      rw [if_neg (by omega)] at jn52
                      exact jn52
                    · refine r_ldc hx hb 1000000 hown (hts _ q371) (by decide) dX9_next_173 ?_
                      refine lv_goto (tgt := 198) hx hb dX9_next_175 (by decide) ?_
                      rw [if_pos (by omega)] at jn52
                      exact jn52
              exact loop146_43 ((n - r : Int).toNat + 1) r V ad C40 (by omega) v_rd e_rd (by rw [k_rd, show (r - r).toNat = 0 by omega]; rfl) v_tx e_tx k_tx hOc (by omega) rfl (by intro j hj; omega) rfl rfl _ _ _ hG hS (lv_sub hl [0] rfl)
          · have hl1 : fLe x (tF x n to) = true := decide_eq_true (by rw [← ef]; omega)
            have t1 := tok_word hne hl1
            refine lv_aload_n hx hb dX9_next_88 rfl (lv_at hl 0 rfl) ?_
            refine r_iconst hx hb dX9_next_89 ?_
            refine a_put (tyf := tyX9) hCK hG hS 6000 e_rd v_rd k_rd (ci := 8) rfl in_X9 tyX9_ok nmX9 6 (by decide) q330 rfl rfl rfl rfl (Nat.le_of_ble_eq_true rfl) dX9_next_90 (fun C60 H locs kk61 oo62 hG hS => ?_)
            have k_rd : C60 6000 = .inr (8, [.ref (ad 6001), .ref (ad 6002), .ref (ad 1), .int (iI n), .ref (ad 6003), .ref (ad 6005), .int (iI 1), .int (iI r), .int (iI r), .int (iI vl), .int (iI fa)]) := kk61
            have k_tx : C60 1 = .inl (E 1, 300, ai x) := (oo62 1 (by omega)).trans k_tx
            have hOc : ∀ q, (q ≠ 6000) → C60 q = C q := fun q hq => (oo62 q (by omega)).trans (hOc q hq)
            have loop93_63 : ∀ (nd : Nat) (u : Int) (Vg : Nat → Prop) (adg : Nat → Nat) (Cg : Nat → va_E), n - u < (nd : Int) → (Vg 6000) → (adg 6000 = (ad 6000)) → (Cg 6000 = .inr (8, [.ref (ad 6001), .ref (ad 6002), .ref (ad 1), .int (iI n), .ref (ad 6003), .ref (ad 6005), .int (iI 1), .int (iI r), .int (iI u), .int (iI vl), .int (iI fa)])) → (Vg 1) → (adg 1 = (ad 1)) → (Cg 1 = .inl (E 1, 300, ai x)) → (∀ q, (q ≠ 6000) → Cg q = C q) → (r ≤ u ∧ u ≤ n) → (rn (fLe x) n u = rn (fLe x) n r) → (V = Vg) → (ad = adg) → ∀ (H : Heap) (locs : List Loc) (ls : Array Slot), GW D A Vg adg Cg H → va_S A s.heap H locs → lv_has ls 1 [(0, .ref (ad 6000))] → W p l e R s m args below meth c H locs (0 + 0) (0 + 0) Q (F0 m 93 ls []) := by
              intro nd
              induction nd with
              | zero => intro u Vg adg Cg hn65 v_rd e_rd k_rd v_tx e_tx k_tx hOc hu eu eV ea; exfalso; omega
              | succ nd ih64 =>
                intro u Vg adg Cg hn65 v_rd e_rd k_rd v_tx e_tx k_tx hOc hu eu eV ea H locs ls hG hS hl
                subst eV
                subst ea
                refine lv_aload_n hx hb dX9_next_93 rfl (lv_at hl 0 rfl) ?_
                refine lv_aload_n hx hb dX9_next_94 rfl (lv_at hl 0 rfl) ?_
                refine a_get hCK hG 6000 e_rd v_rd k_rd (ci := 8) rfl in_X9 8 (by decide) q332 rfl rfl dX9_next_95 ?_
                refine W.eq (g2 := F0 m 98 ls [.int (iI u), .ref (ad 6000)]) rfl ?_
                refine r_bipush hx hb dX9_next_98 (by decide) ?_
                refine r_bipush hx hb dX9_next_100 (by decide) ?_
                refine a_calli (a_runV (n := 3) (C0 := RX9) (b := (ad 6000)) (rest := []) (as := [.int (iI u), .int (iI 97), .int (iI 122)]) hCK hE hA hml (met_bet l adK adV st D E A V ad Cg u 97 122 x n 1 r u vl fa hn hbx v_rd k_rd v_tx k_tx (by omega) (by decide) (by decide)) (by have h := g_rec (r := 6000) (ci := 8) hK hG v_rd rfl k_rd; rw [e_rd] at h; exact h) q367 q369 qs2 q86 q370 (by decide +kernel) ⟨rfl, rfl⟩ hR ⟨Nat.le_of_ble_eq_true rfl, Nat.le_of_ble_eq_true rfl⟩ ⟨(by rw [hR]; show _ ≤ _; (try unfold amr); (try simp only []); omega), (by rw [hR]; show _ ≤ _; (try unfold amr); (try simp only []); omega)⟩ hG hS rfl hl.1 rfl (Nat.le_of_ble_eq_true rfl) dX9_next_102) hS (fun z66 ad67 V68 C69 H locs hp70 hG hS => ?_)
                obtain ⟨rfl, rfl, rfl, rfl⟩ := hp70
                refine W.eq (g2 := F0 m 105 ls [.int (iI (if u < n ∧ 97 ≤ x u ∧ x u ≤ 122 then 1 else 0))]) rfl ?_
                refine r_ifeqB (tgt := 261) hx hb dX9_next_105 (by decide) (fun c71 => ?_) (fun c71 => ?_)
                · have et : u = tT x n to := by rw [t1.2.1, ← ef, ← eu, rn_e (by intro q; have := of_decide_eq_true q.2; omega)]
                  exact a_vret hCK hQ hr hlk hG hS (by omega) (by omega) dX9_next_261 (⟨rfl, rfl, ⟨vl, by rw [k_rd, t1.2.2, ← ef, et], fun h => absurd (t1.1.symm.trans h) (by decide)⟩, hOc⟩)
                · refine lv_aload_n hx hb dX9_next_108 rfl (lv_at hl 0 rfl) ?_
                  refine lv_dup hx hb dX9_next_109 rfl ?_
                  refine a_get hCK hG 6000 e_rd v_rd k_rd (ci := 8) rfl in_X9 8 (by decide) q332 rfl rfl dX9_next_110 ?_
                  refine W.eq (g2 := F0 m 113 ls [.int (iI u), .ref (ad 6000)]) rfl ?_
                  refine r_iconst hx hb dX9_next_113 ?_
                  refine r_iadd hx hb dX9_next_114 ?_
                  refine a_put (tyf := tyX9) hCK hG hS 6000 e_rd v_rd k_rd (ci := 8) rfl in_X9 tyX9_ok nmX9 8 (by decide) q332 rfl rfl rfl rfl (Nat.le_of_ble_eq_true rfl) dX9_next_115 (fun C72 H locs kk73 oo74 hG hS => ?_)
                  have k_rd : C72 6000 = .inr (8, [.ref (ad 6001), .ref (ad 6002), .ref (ad 1), .int (iI n), .ref (ad 6003), .ref (ad 6005), .int (iI 1), .int (iI r), .int (iI (u + 1)), .int (iI vl), .int (iI fa)]) := kk73
                  have k_tx : C72 1 = .inl (E 1, 300, ai x) := (oo74 1 (by omega)).trans k_tx
                  have hOc : ∀ q, (q ≠ 6000) → C72 q = C q := fun q hq => (oo74 q (by omega)).trans (hOc q hq)
                  refine lv_goto (tgt := 93) hx hb dX9_next_118 (by decide) ?_
                  exact ih64 (u + 1) V ad C72 (by omega) v_rd e_rd k_rd v_tx e_tx k_tx hOc (by omega) (by rw [← eu]; exact (rn_s (f := fLe x) (by omega) (decide_eq_true (by omega))).symm) rfl rfl _ _ _ hG hS (lv_sub hl [0] rfl)
            exact loop93_63 ((n - r : Int).toNat + 1) r V ad C60 (by omega) v_rd e_rd k_rd v_tx e_tx k_tx hOc (by omega) rfl rfl rfl _ _ _ hG hS (lv_sub hl [0] rfl)
        · have t1 := tok_end (x := x) (n := n) (p := to) (by omega)
          refine lv_aload_n hx hb dX9_next_65 rfl (lv_at hl 0 rfl) ?_
          refine r_iconst hx hb dX9_next_66 ?_
          refine a_put (tyf := tyX9) hCK hG hS 6000 e_rd v_rd k_rd (ci := 8) rfl in_X9 tyX9_ok nmX9 6 (by decide) q330 rfl rfl rfl rfl (Nat.le_of_ble_eq_true rfl) dX9_next_67 (fun C75 H locs kk76 oo77 hG hS => ?_)
          have k_rd : C75 6000 = .inr (8, [.ref (ad 6001), .ref (ad 6002), .ref (ad 1), .int (iI n), .ref (ad 6003), .ref (ad 6005), .int (iI 3), .int (iI r), .int (iI r), .int (iI vl), .int (iI fa)]) := kk76
          have k_tx : C75 1 = .inl (E 1, 300, ai x) := (oo77 1 (by omega)).trans k_tx
          have hOc : ∀ q, (q ≠ 6000) → C75 q = C q := fun q hq => (oo77 q (by omega)).trans (hOc q hq)
          refine lv_goto (tgt := 261) hx hb dX9_next_70 (by decide) ?_
          exact a_vret hCK hQ hr hlk hG hS (by omega) (by omega) dX9_next_261 (⟨rfl, rfl, ⟨vl, by rw [k_rd, t1.2.1, t1.2.2, ← ef, show r = n by omega], fun h => absurd (t1.1.symm.trans h) (by decide)⟩, hOc⟩)
      · have bx := hbx r (by omega) (by omega)
        refine lv_aload_n hx hb dX9_next_19 rfl (lv_at hl 0 rfl) ?_
        refine a_get hCK hG 6000 e_rd v_rd k_rd (ci := 8) rfl in_X9 2 (by decide) q326 rfl rfl dX9_next_20 ?_
        refine W.eq (g2 := F0 m 23 ls [.ref (ad 1)]) rfl ?_
        refine lv_aload_n hx hb dX9_next_23 rfl (lv_at hl 0 rfl) ?_
        refine a_get hCK hG 6000 e_rd v_rd k_rd (ci := 8) rfl in_X9 7 (by decide) q331 rfl rfl dX9_next_24 ?_
        refine W.eq (g2 := F0 m 27 ls [.int (iI r), .ref (ad 1)]) rfl ?_
        refine a_bld (v := x r) hCK hG 1 e_tx v_tx k_tx (by decide) (by omega) rfl dX9_next_27 ?_
        refine r_bipush hx hb dX9_next_28 (by decide) ?_
        refine r_icmp_ne (tgt := 46) hx hb dX9_next_30 (by decide) (by omega) (by decide) (fun c78 => ?_) (fun c78 => ?_)
        · have ef : r = tF x n to := by rw [← er, rn_e (by intro q; have := of_decide_eq_true q.2; omega)]
          have hbf := tF_bd x hto.2
          refine lv_aload_n hx hb dX9_next_46 rfl (lv_at hl 0 rfl) ?_
          refine lv_aload_n hx hb dX9_next_47 rfl (lv_at hl 0 rfl) ?_
          refine a_get hCK hG 6000 e_rd v_rd k_rd (ci := 8) rfl in_X9 7 (by decide) q331 rfl rfl dX9_next_48 ?_
          refine W.eq (g2 := F0 m 51 ls [.int (iI r), .ref (ad 6000)]) rfl ?_
          refine a_put (tyf := tyX9) hCK hG hS 6000 e_rd v_rd k_rd (ci := 8) rfl in_X9 tyX9_ok nmX9 8 (by decide) q332 rfl rfl rfl rfl (Nat.le_of_ble_eq_true rfl) dX9_next_51 (fun C79 H locs kk80 oo81 hG hS => ?_)
          have k_rd : C79 6000 = .inr (8, [.ref (ad 6001), .ref (ad 6002), .ref (ad 1), .int (iI n), .ref (ad 6003), .ref (ad 6005), .int (iI k), .int (iI r), .int (iI r), .int (iI vl), .int (iI fa)]) := kk80
          have k_tx : C79 1 = .inl (E 1, 300, ai x) := (oo81 1 (by omega)).trans k_tx
          have hOc : ∀ q, (q ≠ 6000) → C79 q = C q := fun q hq => (oo81 q (by omega)).trans (hOc q hq)
          refine lv_aload_n hx hb dX9_next_54 rfl (lv_at hl 0 rfl) ?_
          refine a_get hCK hG 6000 e_rd v_rd k_rd (ci := 8) rfl in_X9 7 (by decide) q331 rfl rfl dX9_next_55 ?_
          refine W.eq (g2 := F0 m 58 ls [.int (iI r)]) rfl ?_
          refine lv_aload_n hx hb dX9_next_58 rfl (lv_at hl 0 rfl) ?_
          refine a_get hCK hG 6000 e_rd v_rd k_rd (ci := 8) rfl in_X9 3 (by decide) q327 rfl rfl dX9_next_59 ?_
          refine W.eq (g2 := F0 m 62 ls [.int (iI n), .int (iI r)]) rfl ?_
          refine r_icmp_ne (tgt := 73) hx hb dX9_next_62 (by decide) (by omega) (by omega) (fun c82 => ?_) (fun c82 => ?_)
          · have hne : tF x n to ≠ n := by omega
            refine lv_aload_n hx hb dX9_next_73 rfl (lv_at hl 0 rfl) ?_
            refine lv_aload_n hx hb dX9_next_74 rfl (lv_at hl 0 rfl) ?_
            refine a_get hCK hG 6000 e_rd v_rd k_rd (ci := 8) rfl in_X9 7 (by decide) q331 rfl rfl dX9_next_75 ?_
            refine W.eq (g2 := F0 m 78 ls [.int (iI r), .ref (ad 6000)]) rfl ?_
            refine r_bipush hx hb dX9_next_78 (by decide) ?_
            refine r_bipush hx hb dX9_next_80 (by decide) ?_
            refine a_calli (a_runV (n := 3) (C0 := RX9) (b := (ad 6000)) (rest := []) (as := [.int (iI r), .int (iI 97), .int (iI 122)]) hCK hE hA hml (met_bet l adK adV st D E A V ad C79 r 97 122 x n k r r vl fa hn hbx v_rd k_rd v_tx k_tx (by omega) (by decide) (by decide)) (by have h := g_rec (r := 6000) (ci := 8) hK hG v_rd rfl k_rd; rw [e_rd] at h; exact h) q367 q369 qs2 q86 q370 (by decide +kernel) ⟨rfl, rfl⟩ hR ⟨Nat.le_of_ble_eq_true rfl, Nat.le_of_ble_eq_true rfl⟩ ⟨(by rw [hR]; show _ ≤ _; (try unfold amr); (try simp only []); omega), (by rw [hR]; show _ ≤ _; (try unfold amr); (try simp only []); omega)⟩ hG hS rfl hl.1 rfl (Nat.le_of_ble_eq_true rfl) dX9_next_82) hS (fun z83 ad84 V85 C86 H locs hp87 hG hS => ?_)
            obtain ⟨rfl, rfl, rfl, rfl⟩ := hp87
            refine W.eq (g2 := F0 m 85 ls [.int (iI (if r < n ∧ 97 ≤ x r ∧ x r ≤ 122 then 1 else 0))]) rfl ?_
            refine r_ifeqB (tgt := 121) hx hb dX9_next_85 (by decide) (fun c88 => ?_) (fun c88 => ?_)
            · have hl1 : ¬ fLe x (tF x n to) = true := by rw [← ef]; intro q; have := of_decide_eq_true q; omega
              refine lv_aload_n hx hb dX9_next_121 rfl (lv_at hl 0 rfl) ?_
              refine lv_aload_n hx hb dX9_next_122 rfl (lv_at hl 0 rfl) ?_
              refine a_get hCK hG 6000 e_rd v_rd k_rd (ci := 8) rfl in_X9 7 (by decide) q331 rfl rfl dX9_next_123 ?_
              refine W.eq (g2 := F0 m 126 ls [.int (iI r), .ref (ad 6000)]) rfl ?_
              refine r_bipush hx hb dX9_next_126 (by decide) ?_
              refine r_bipush hx hb dX9_next_128 (by decide) ?_
              refine a_calli (a_runV (n := 3) (C0 := RX9) (b := (ad 6000)) (rest := []) (as := [.int (iI r), .int (iI 48), .int (iI 57)]) hCK hE hA hml (met_bet l adK adV st D E A V ad C79 r 48 57 x n k r r vl fa hn hbx v_rd k_rd v_tx k_tx (by omega) (by decide) (by decide)) (by have h := g_rec (r := 6000) (ci := 8) hK hG v_rd rfl k_rd; rw [e_rd] at h; exact h) q367 q369 qs2 q86 q370 (by decide +kernel) ⟨rfl, rfl⟩ hR ⟨Nat.le_of_ble_eq_true rfl, Nat.le_of_ble_eq_true rfl⟩ ⟨(by rw [hR]; show _ ≤ _; (try unfold amr); (try simp only []); omega), (by rw [hR]; show _ ≤ _; (try unfold amr); (try simp only []); omega)⟩ hG hS rfl hl.1 rfl (Nat.le_of_ble_eq_true rfl) dX9_next_130) hS (fun z89 ad90 V91 C92 H locs hp93 hG hS => ?_)
              obtain ⟨rfl, rfl, rfl, rfl⟩ := hp93
              refine W.eq (g2 := F0 m 133 ls [.int (iI (if r < n ∧ 48 ≤ x r ∧ x r ≤ 57 then 1 else 0))]) rfl ?_
              refine r_ifeqB (tgt := 217) hx hb dX9_next_133 (by decide) (fun c94 => ?_) (fun c94 => ?_)
              · have hd1 : ¬ fDi x (tF x n to) = true := by rw [← ef]; intro q; have := of_decide_eq_true q; omega
                have bx := hbx r (by omega) (by omega)
                have hix := sIx_10 (c := x r) bx
                have hib := sIx_bd (c := x r)
                refine lv_aload_n hx hb dX9_next_217 rfl (lv_at hl 0 rfl) ?_
                refine e_str hx hb hE (i := 10) rfl hown dX9_next_218 ?_
                refine lv_aload_n hx hb dX9_next_220 rfl (lv_at hl 0 rfl) ?_
                refine a_get hCK hG 6000 e_rd v_rd k_rd (ci := 8) rfl in_X9 2 (by decide) q326 rfl rfl dX9_next_221 ?_
                refine W.eq (g2 := F0 m 224 ls [.ref (ad 1), .ref (adK 10), .ref (ad 6000)]) rfl ?_
                refine lv_aload_n hx hb dX9_next_224 rfl (lv_at hl 0 rfl) ?_
                refine a_get hCK hG 6000 e_rd v_rd k_rd (ci := 8) rfl in_X9 7 (by decide) q331 rfl rfl dX9_next_225 ?_
                refine W.eq (g2 := F0 m 228 ls [.int (iI r), .ref (ad 1), .ref (adK 10), .ref (ad 6000)]) rfl ?_
                refine a_bld (v := x r) hCK hG 1 e_tx v_tx k_tx (by decide) (by omega) rfl dX9_next_228 ?_
                refine s_calli (j_runV (n := 1) (C := RJ8) (b := adK 10) (rest := [.ref (ad 6000)]) (as := [.int (iI (x r))]) hx hb hml hown hts (met_indexOf l adK adV st A 10 (x r) (by decide) (by omega)) EV.blind (hE.at hS) (e_rec hE hS (by decide)) q377 q378 q379 q87 q380 (by decide +kernel) ⟨rfl, rfl⟩ hR ⟨Nat.le_of_ble_eq_true rfl, Nat.le_of_ble_eq_true rfl⟩ ⟨(by rw [hR]; show _ ≤ _; (try unfold amr); (try simp only []); omega), (by rw [hR]; show _ ≤ _; (try unfold amr); (try simp only []); omega)⟩ rfl hl.1 rfl (Nat.le_of_ble_eq_true rfl) dX9_next_229) ?_
                refine r_if_lt (tgt := 247) hx hb dX9_next_232 (by decide) (by omega) (fun c95 => ?_) (fun c95 => ?_)
                · have t1 := tok_odd hne hl1 hd1 (by rw [← ef]; intro q; have := hix.mpr q; omega)
                  refine r_iconst hx hb dX9_next_247 ?_
                  refine a_put (tyf := tyX9) hCK hG hS 6000 e_rd v_rd k_rd (ci := 8) rfl in_X9 tyX9_ok nmX9 6 (by decide) q330 rfl rfl rfl rfl (Nat.le_of_ble_eq_true rfl) dX9_next_248 (fun C96 H locs kk97 oo98 hG hS => ?_)
                  have k_rd : C96 6000 = .inr (8, [.ref (ad 6001), .ref (ad 6002), .ref (ad 1), .int (iI n), .ref (ad 6003), .ref (ad 6005), .int (iI 4), .int (iI r), .int (iI r), .int (iI vl), .int (iI fa)]) := kk97
                  have k_tx : C96 1 = .inl (E 1, 300, ai x) := (oo98 1 (by omega)).trans k_tx
                  have hOc : ∀ q, (q ≠ 6000) → C96 q = C q := fun q hq => (oo98 q (by omega)).trans (hOc q hq)
                  refine lv_aload_n hx hb dX9_next_251 rfl (lv_at hl 0 rfl) ?_
                  refine lv_dup hx hb dX9_next_252 rfl ?_
                  refine a_get hCK hG 6000 e_rd v_rd k_rd (ci := 8) rfl in_X9 8 (by decide) q332 rfl rfl dX9_next_253 ?_
                  refine W.eq (g2 := F0 m 256 ls [.int (iI r), .ref (ad 6000)]) rfl ?_
                  refine r_iconst hx hb dX9_next_256 ?_
                  refine r_iadd hx hb dX9_next_257 ?_
                  refine a_put (tyf := tyX9) hCK hG hS 6000 e_rd v_rd k_rd (ci := 8) rfl in_X9 tyX9_ok nmX9 8 (by decide) q332 rfl rfl rfl rfl (Nat.le_of_ble_eq_true rfl) dX9_next_258 (fun C99 H locs kk100 oo101 hG hS => ?_)
                  have k_rd : C99 6000 = .inr (8, [.ref (ad 6001), .ref (ad 6002), .ref (ad 1), .int (iI n), .ref (ad 6003), .ref (ad 6005), .int (iI 4), .int (iI r), .int (iI (r + 1)), .int (iI vl), .int (iI fa)]) := kk100
                  have k_tx : C99 1 = .inl (E 1, 300, ai x) := (oo101 1 (by omega)).trans k_tx
                  have hOc : ∀ q, (q ≠ 6000) → C99 q = C q := fun q hq => (oo101 q (by omega)).trans (hOc q hq)
                  exact a_vret hCK hQ hr hlk hG hS (by omega) (by omega) dX9_next_261 (⟨rfl, rfl, ⟨vl, by rw [k_rd, t1.2.2, t1.2.1, ← ef], fun h => absurd (t1.1.symm.trans h) (by decide)⟩, hOc⟩)
                · have t1 := tok_sig hne hl1 hd1 (by rw [← ef]; exact hix.mp (by omega))
                  refine lv_aload_n hx hb dX9_next_235 rfl (lv_at hl 0 rfl) ?_
                  refine a_get hCK hG 6000 e_rd v_rd k_rd (ci := 8) rfl in_X9 2 (by decide) q326 rfl rfl dX9_next_236 ?_
                  refine W.eq (g2 := F0 m 239 ls [.ref (ad 1), .ref (ad 6000)]) rfl ?_
                  refine lv_aload_n hx hb dX9_next_239 rfl (lv_at hl 0 rfl) ?_
                  refine a_get hCK hG 6000 e_rd v_rd k_rd (ci := 8) rfl in_X9 7 (by decide) q331 rfl rfl dX9_next_240 ?_
                  refine W.eq (g2 := F0 m 243 ls [.int (iI r), .ref (ad 1), .ref (ad 6000)]) rfl ?_
                  refine a_bld (v := x r) hCK hG 1 e_tx v_tx k_tx (by decide) (by omega) rfl dX9_next_243 ?_
                  refine lv_goto (tgt := 248) hx hb dX9_next_244 (by decide) ?_
                  refine a_put (tyf := tyX9) hCK hG hS 6000 e_rd v_rd k_rd (ci := 8) rfl in_X9 tyX9_ok nmX9 6 (by decide) q330 rfl rfl rfl rfl (Nat.le_of_ble_eq_true rfl) dX9_next_248 (fun C102 H locs kk103 oo104 hG hS => ?_)
                  have k_rd : C102 6000 = .inr (8, [.ref (ad 6001), .ref (ad 6002), .ref (ad 1), .int (iI n), .ref (ad 6003), .ref (ad 6005), .int (iI (x r)), .int (iI r), .int (iI r), .int (iI vl), .int (iI fa)]) := kk103
                  have k_tx : C102 1 = .inl (E 1, 300, ai x) := (oo104 1 (by omega)).trans k_tx
                  have hOc : ∀ q, (q ≠ 6000) → C102 q = C q := fun q hq => (oo104 q (by omega)).trans (hOc q hq)
                  refine lv_aload_n hx hb dX9_next_251 rfl (lv_at hl 0 rfl) ?_
                  refine lv_dup hx hb dX9_next_252 rfl ?_
                  refine a_get hCK hG 6000 e_rd v_rd k_rd (ci := 8) rfl in_X9 8 (by decide) q332 rfl rfl dX9_next_253 ?_
                  refine W.eq (g2 := F0 m 256 ls [.int (iI r), .ref (ad 6000)]) rfl ?_
                  refine r_iconst hx hb dX9_next_256 ?_
                  refine r_iadd hx hb dX9_next_257 ?_
                  refine a_put (tyf := tyX9) hCK hG hS 6000 e_rd v_rd k_rd (ci := 8) rfl in_X9 tyX9_ok nmX9 8 (by decide) q332 rfl rfl rfl rfl (Nat.le_of_ble_eq_true rfl) dX9_next_258 (fun C105 H locs kk106 oo107 hG hS => ?_)
                  have k_rd : C105 6000 = .inr (8, [.ref (ad 6001), .ref (ad 6002), .ref (ad 1), .int (iI n), .ref (ad 6003), .ref (ad 6005), .int (iI (x r)), .int (iI r), .int (iI (r + 1)), .int (iI vl), .int (iI fa)]) := kk106
                  have k_tx : C105 1 = .inl (E 1, 300, ai x) := (oo107 1 (by omega)).trans k_tx
                  have hOc : ∀ q, (q ≠ 6000) → C105 q = C q := fun q hq => (oo107 q (by omega)).trans (hOc q hq)
                  exact a_vret hCK hQ hr hlk hG hS (by omega) (by omega) dX9_next_261 (⟨rfl, rfl, ⟨vl, by rw [k_rd, t1.2.2, t1.2.1, ← ef], fun h => absurd (t1.1.symm.trans h) (by decide)⟩, hOc⟩)
              · have hd1 : fDi x (tF x n to) = true := decide_eq_true (by rw [← ef]; omega)
                have t1 := tok_num hne hl1 hd1
                refine lv_aload_n hx hb dX9_next_136 rfl (lv_at hl 0 rfl) ?_
                refine r_iconst hx hb dX9_next_137 ?_
                refine a_put (tyf := tyX9) hCK hG hS 6000 e_rd v_rd k_rd (ci := 8) rfl in_X9 tyX9_ok nmX9 6 (by decide) q330 rfl rfl rfl rfl (Nat.le_of_ble_eq_true rfl) dX9_next_138 (fun C108 H locs kk109 oo110 hG hS => ?_)
                have k_rd : C108 6000 = .inr (8, [.ref (ad 6001), .ref (ad 6002), .ref (ad 1), .int (iI n), .ref (ad 6003), .ref (ad 6005), .int (iI 2), .int (iI r), .int (iI r), .int (iI vl), .int (iI fa)]) := kk109
                have k_tx : C108 1 = .inl (E 1, 300, ai x) := (oo110 1 (by omega)).trans k_tx
                have hOc : ∀ q, (q ≠ 6000) → C108 q = C q := fun q hq => (oo110 q (by omega)).trans (hOc q hq)
                refine lv_aload_n hx hb dX9_next_141 rfl (lv_at hl 0 rfl) ?_
                refine r_iconst hx hb dX9_next_142 ?_
                refine a_put (tyf := tyX9) hCK hG hS 6000 e_rd v_rd k_rd (ci := 8) rfl in_X9 tyX9_ok nmX9 9 (by decide) q333 rfl rfl rfl rfl (Nat.le_of_ble_eq_true rfl) dX9_next_143 (fun C111 H locs kk112 oo113 hG hS => ?_)
                have k_rd : C111 6000 = .inr (8, [.ref (ad 6001), .ref (ad 6002), .ref (ad 1), .int (iI n), .ref (ad 6003), .ref (ad 6005), .int (iI 2), .int (iI r), .int (iI r), .int (iI 0), .int (iI fa)]) := kk112
                have k_tx : C111 1 = .inl (E 1, 300, ai x) := (oo113 1 (by omega)).trans k_tx
                have hOc : ∀ q, (q ≠ 6000) → C111 q = C q := fun q hq => (oo113 q (by omega)).trans (hOc q hq)
                have loop146_114 : ∀ (nd : Nat) (u : Int) (Vg : Nat → Prop) (adg : Nat → Nat) (Cg : Nat → va_E), n - u < (nd : Int) → (Vg 6000) → (adg 6000 = (ad 6000)) → (Cg 6000 = .inr (8, [.ref (ad 6001), .ref (ad 6002), .ref (ad 1), .int (iI n), .ref (ad 6003), .ref (ad 6005), .int (iI 2), .int (iI r), .int (iI u), .int (iI (numC x r (u - r).toNat)), .int (iI fa)])) → (Vg 1) → (adg 1 = (ad 1)) → (Cg 1 = .inl (E 1, 300, ai x)) → (∀ q, (q ≠ 6000) → Cg q = C q) → (r ≤ u ∧ u ≤ n) → (rn (fDi x) n u = rn (fDi x) n r) → (∀ j : Nat, j < (u - r).toNat → 48 ≤ x (r + j) ∧ x (r + j) ≤ 57) → (V = Vg) → (ad = adg) → ∀ (H : Heap) (locs : List Loc) (ls : Array Slot), GW D A Vg adg Cg H → va_S A s.heap H locs → lv_has ls 1 [(0, .ref (ad 6000))] → W p l e R s m args below meth c H locs (0 + 0 + 0) (0 + 0 + 0) Q (F0 m 146 ls []) := by
                  intro nd
                  induction nd with
                  | zero => intro u Vg adg Cg hn116 v_rd e_rd k_rd v_tx e_tx k_tx hOc hu eu hdig eV ea; exfalso; omega
                  | succ nd ih115 =>
                    intro u Vg adg Cg hn116 v_rd e_rd k_rd v_tx e_tx k_tx hOc hu eu hdig eV ea H locs ls hG hS hl
                    subst eV
                    subst ea
                    refine lv_aload_n hx hb dX9_next_146 rfl (lv_at hl 0 rfl) ?_
                    refine lv_aload_n hx hb dX9_next_147 rfl (lv_at hl 0 rfl) ?_
                    refine a_get hCK hG 6000 e_rd v_rd k_rd (ci := 8) rfl in_X9 8 (by decide) q332 rfl rfl dX9_next_148 ?_
                    refine W.eq (g2 := F0 m 151 ls [.int (iI u), .ref (ad 6000)]) rfl ?_
                    refine r_bipush hx hb dX9_next_151 (by decide) ?_
                    refine r_bipush hx hb dX9_next_153 (by decide) ?_
                    refine a_calli (a_runV (n := 3) (C0 := RX9) (b := (ad 6000)) (rest := []) (as := [.int (iI u), .int (iI 48), .int (iI 57)]) hCK hE hA hml (met_bet l adK adV st D E A V ad Cg u 48 57 x n 2 r u (numC x r (u - r).toNat) fa hn hbx v_rd k_rd v_tx k_tx (by omega) (by decide) (by decide)) (by have h := g_rec (r := 6000) (ci := 8) hK hG v_rd rfl k_rd; rw [e_rd] at h; exact h) q367 q369 qs2 q86 q370 (by decide +kernel) ⟨rfl, rfl⟩ hR ⟨Nat.le_of_ble_eq_true rfl, Nat.le_of_ble_eq_true rfl⟩ ⟨(by rw [hR]; show _ ≤ _; (try unfold amr); (try simp only []); omega), (by rw [hR]; show _ ≤ _; (try unfold amr); (try simp only []); omega)⟩ hG hS rfl hl.1 rfl (Nat.le_of_ble_eq_true rfl) dX9_next_155) hS (fun z117 ad118 V119 C120 H locs hp121 hG hS => ?_)
                    obtain ⟨rfl, rfl, rfl, rfl⟩ := hp121
                    refine W.eq (g2 := F0 m 158 ls [.int (iI (if u < n ∧ 48 ≤ x u ∧ x u ≤ 57 then 1 else 0))]) rfl ?_
                    refine r_ifeqB (tgt := 261) hx hb dX9_next_158 (by decide) (fun c122 => ?_) (fun c122 => ?_)
                    · have et : u = tT x n to := by rw [t1.2.1, ← ef, ← eu, rn_e (by intro q; have := of_decide_eq_true q.2; omega)]
                      exact a_vret hCK hQ hr hlk hG hS (by omega) (by omega) dX9_next_261 (⟨rfl, rfl, ⟨numC x r (u - r).toNat, by rw [k_rd, t1.2.2, ← ef, et], fun _ => by rw [← ef, ← et]⟩, hOc⟩)
                    · have bx := hbx u (by omega) (by omega)
                      have hd := (num_rel x r (u - r).toNat hdig).2.1
                      refine lv_aload_n hx hb dX9_next_161 rfl (lv_at hl 0 rfl) ?_
                      refine r_ldc hx hb 1000000 hown (hts _ q371) (by decide) dX9_next_162 ?_
                      refine lv_aload_n hx hb dX9_next_164 rfl (lv_at hl 0 rfl) ?_
                      refine a_get hCK hG 6000 e_rd v_rd k_rd (ci := 8) rfl in_X9 9 (by decide) q333 rfl rfl dX9_next_165 ?_
                      refine W.eq (g2 := F0 m 168 ls [.int (iI (numC x r (u - r).toNat)), .int (iI 1000000), .ref (ad 6000)]) rfl ?_
                      refine r_ldc hx hb 100000 hown (hts _ q372) (by decide) dX9_next_168 ?_
                      have jn123 : W p l e R s m args below meth c H locs (0 + 0 + 0 + 0) (0 + 0 + 0 + 0) Q (F0 m 198 ls [.int (iI (if 100000 < numC x r (u - r).toNat then 1000000 else 10 * numC x r (u - r).toNat + x u - 48)), .int (iI 1000000), .ref (ad 6000)]) := by
                        refine s_calli (j_runS (n := 2) (rest := [.ref (ad 6000)]) (as := [.int (iI 1000000), .int (iI (if 100000 < numC x r (u - r).toNat then 1000000 else 10 * numC x r (u - r).toNat + x u - 48))]) hx hb hml hown hts ((met_min l 1000000 (if 100000 < numC x r (u - r).toNat then 1000000 else 10 * numC x r (u - r).toNat + x u - 48) (by decide) (by split <;> omega)).jm) (fun _ _ _ _ _ => trivial) (fun _ _ _ => trivial) q373 q374 q76 q375 (by decide +kernel) ⟨rfl, rfl⟩ hR ⟨Nat.le_of_ble_eq_true rfl, Nat.le_of_ble_eq_true rfl⟩ ⟨(by rw [hR]; show _ ≤ _; (try unfold amr); (try simp only []); omega), (by rw [hR]; show _ ≤ _; (try unfold amr); (try simp only []); omega)⟩ rfl hl.1 rfl (Nat.le_of_ble_eq_true rfl) dX9_next_198) ?_
                        obtain ⟨nv, h_nv⟩ : ∃ xN : Int, xN = if (if 100000 < numC x r (u - r).toNat then 1000000 else 10 * numC x r (u - r).toNat + x u - 48) < 1000000 then (if 100000 < numC x r (u - r).toNat then 1000000 else 10 * numC x r (u - r).toNat + x u - 48) else 1000000 := ⟨_, rfl⟩
                        refine W.eq (g2 := F0 m 201 ls [.int (iI nv), .ref (ad 6000)]) (by subst h_nv; rfl) ?_
                        have e_nv : nv = numC x r (u + 1 - r).toNat := by rw [h_nv, show u + 1 - r = (u - r) + 1 by omega, numC_s x r (by omega), show r + (u - r) = u by omega]; repeat (first | omega | split)
                        clear h_nv
                        subst e_nv
                        refine a_put (tyf := tyX9) hCK hG hS 6000 e_rd v_rd k_rd (ci := 8) rfl in_X9 tyX9_ok nmX9 9 (by decide) q333 rfl rfl rfl rfl (Nat.le_of_ble_eq_true rfl) dX9_next_201 (fun C124 H locs kk125 oo126 hG hS => ?_)
                        have k_rd : C124 6000 = .inr (8, [.ref (ad 6001), .ref (ad 6002), .ref (ad 1), .int (iI n), .ref (ad 6003), .ref (ad 6005), .int (iI 2), .int (iI r), .int (iI u), .int (iI (numC x r (u + 1 - r).toNat)), .int (iI fa)]) := kk125
                        have k_tx : C124 1 = .inl (E 1, 300, ai x) := (oo126 1 (by omega)).trans k_tx
                        have hOc : ∀ q, (q ≠ 6000) → C124 q = C q := fun q hq => (oo126 q (by omega)).trans (hOc q hq)
                        refine lv_aload_n hx hb dX9_next_204 rfl (lv_at hl 0 rfl) ?_
                        refine lv_dup hx hb dX9_next_205 rfl ?_
                        refine a_get hCK hG 6000 e_rd v_rd k_rd (ci := 8) rfl in_X9 8 (by decide) q332 rfl rfl dX9_next_206 ?_
                        refine W.eq (g2 := F0 m 209 ls [.int (iI u), .ref (ad 6000)]) rfl ?_
                        refine r_iconst hx hb dX9_next_209 ?_
                        refine r_iadd hx hb dX9_next_210 ?_
                        refine a_put (tyf := tyX9) hCK hG hS 6000 e_rd v_rd k_rd (ci := 8) rfl in_X9 tyX9_ok nmX9 8 (by decide) q332 rfl rfl rfl rfl (Nat.le_of_ble_eq_true rfl) dX9_next_211 (fun C127 H locs kk128 oo129 hG hS => ?_)
                        have k_rd : C127 6000 = .inr (8, [.ref (ad 6001), .ref (ad 6002), .ref (ad 1), .int (iI n), .ref (ad 6003), .ref (ad 6005), .int (iI 2), .int (iI r), .int (iI (u + 1)), .int (iI (numC x r (u + 1 - r).toNat)), .int (iI fa)]) := kk128
                        have k_tx : C127 1 = .inl (E 1, 300, ai x) := (oo129 1 (by omega)).trans k_tx
                        have hOc : ∀ q, (q ≠ 6000) → C127 q = C q := fun q hq => (oo129 q (by omega)).trans (hOc q hq)
                        refine lv_goto (tgt := 146) hx hb dX9_next_214 (by decide) ?_
                        exact ih115 (u + 1) V ad C127 (by omega) v_rd e_rd k_rd v_tx e_tx k_tx hOc (by omega) (by rw [← eu]; exact (rn_s (f := fDi x) (by omega) (decide_eq_true (by omega))).symm) (by intro j hj; by_cases cj : j = (u - r).toNat; rw [show r + (j : Int) = u by omega]; omega; exact hdig j (by omega)) rfl rfl _ _ _ hG hS (lv_sub hl [0] rfl)
                      refine r_icmp_le (tgt := 178) hx hb dX9_next_170 (by decide) (by omega) (by decide) (fun c130 => ?_) (fun c130 => ?_)
                      · refine r_bipush hx hb dX9_next_178 (by decide) ?_
                        refine lv_aload_n hx hb dX9_next_180 rfl (lv_at hl 0 rfl) ?_
                        refine a_get hCK hG 6000 e_rd v_rd k_rd (ci := 8) rfl in_X9 9 (by decide) q333 rfl rfl dX9_next_181 ?_
                        refine W.eq (g2 := F0 m 184 ls [.int (iI (numC x r (u - r).toNat)), .int (iI 10), .int (iI 1000000), .ref (ad 6000)]) rfl ?_
                        refine r_imul hx hb dX9_next_184 ?_
                        refine lv_aload_n hx hb dX9_next_185 rfl (lv_at hl 0 rfl) ?_
                        refine a_get hCK hG 6000 e_rd v_rd k_rd (ci := 8) rfl in_X9 2 (by decide) q326 rfl rfl dX9_next_186 ?_
                        refine W.eq (g2 := F0 m 189 ls [.ref (ad 1), .int (iI (10 * (numC x r (u - r).toNat))), .int (iI 1000000), .ref (ad 6000)]) rfl ?_
                        refine lv_aload_n hx hb dX9_next_189 rfl (lv_at hl 0 rfl) ?_
                        refine a_get hCK hG 6000 e_rd v_rd k_rd (ci := 8) rfl in_X9 8 (by decide) q332 rfl rfl dX9_next_190 ?_
                        refine W.eq (g2 := F0 m 193 ls [.int (iI u), .ref (ad 1), .int (iI (10 * (numC x r (u - r).toNat))), .int (iI 1000000), .ref (ad 6000)]) rfl ?_
                        refine a_bld (v := x u) hCK hG 1 e_tx v_tx k_tx (by decide) (by omega) rfl dX9_next_193 ?_
                        refine r_iadd hx hb dX9_next_194 ?_
                        refine r_bipush hx hb dX9_next_195 (by decide) ?_
                        refine r_isub hx hb dX9_next_197 ?_
                        rw [if_neg (by omega)] at jn123
                        exact jn123
                      · refine r_ldc hx hb 1000000 hown (hts _ q371) (by decide) dX9_next_173 ?_
                        refine lv_goto (tgt := 198) hx hb dX9_next_175 (by decide) ?_
                        rw [if_pos (by omega)] at jn123
                        exact jn123
                exact loop146_114 ((n - r : Int).toNat + 1) r V ad C111 (by omega) v_rd e_rd (by rw [k_rd, show (r - r).toNat = 0 by omega]; rfl) v_tx e_tx k_tx hOc (by omega) rfl (by intro j hj; omega) rfl rfl _ _ _ hG hS (lv_sub hl [0] rfl)
            · have hl1 : fLe x (tF x n to) = true := decide_eq_true (by rw [← ef]; omega)
              have t1 := tok_word hne hl1
              refine lv_aload_n hx hb dX9_next_88 rfl (lv_at hl 0 rfl) ?_
              refine r_iconst hx hb dX9_next_89 ?_
              refine a_put (tyf := tyX9) hCK hG hS 6000 e_rd v_rd k_rd (ci := 8) rfl in_X9 tyX9_ok nmX9 6 (by decide) q330 rfl rfl rfl rfl (Nat.le_of_ble_eq_true rfl) dX9_next_90 (fun C131 H locs kk132 oo133 hG hS => ?_)
              have k_rd : C131 6000 = .inr (8, [.ref (ad 6001), .ref (ad 6002), .ref (ad 1), .int (iI n), .ref (ad 6003), .ref (ad 6005), .int (iI 1), .int (iI r), .int (iI r), .int (iI vl), .int (iI fa)]) := kk132
              have k_tx : C131 1 = .inl (E 1, 300, ai x) := (oo133 1 (by omega)).trans k_tx
              have hOc : ∀ q, (q ≠ 6000) → C131 q = C q := fun q hq => (oo133 q (by omega)).trans (hOc q hq)
              have loop93_134 : ∀ (nd : Nat) (u : Int) (Vg : Nat → Prop) (adg : Nat → Nat) (Cg : Nat → va_E), n - u < (nd : Int) → (Vg 6000) → (adg 6000 = (ad 6000)) → (Cg 6000 = .inr (8, [.ref (ad 6001), .ref (ad 6002), .ref (ad 1), .int (iI n), .ref (ad 6003), .ref (ad 6005), .int (iI 1), .int (iI r), .int (iI u), .int (iI vl), .int (iI fa)])) → (Vg 1) → (adg 1 = (ad 1)) → (Cg 1 = .inl (E 1, 300, ai x)) → (∀ q, (q ≠ 6000) → Cg q = C q) → (r ≤ u ∧ u ≤ n) → (rn (fLe x) n u = rn (fLe x) n r) → (V = Vg) → (ad = adg) → ∀ (H : Heap) (locs : List Loc) (ls : Array Slot), GW D A Vg adg Cg H → va_S A s.heap H locs → lv_has ls 1 [(0, .ref (ad 6000))] → W p l e R s m args below meth c H locs (0 + 0) (0 + 0) Q (F0 m 93 ls []) := by
                intro nd
                induction nd with
                | zero => intro u Vg adg Cg hn136 v_rd e_rd k_rd v_tx e_tx k_tx hOc hu eu eV ea; exfalso; omega
                | succ nd ih135 =>
                  intro u Vg adg Cg hn136 v_rd e_rd k_rd v_tx e_tx k_tx hOc hu eu eV ea H locs ls hG hS hl
                  subst eV
                  subst ea
                  refine lv_aload_n hx hb dX9_next_93 rfl (lv_at hl 0 rfl) ?_
                  refine lv_aload_n hx hb dX9_next_94 rfl (lv_at hl 0 rfl) ?_
                  refine a_get hCK hG 6000 e_rd v_rd k_rd (ci := 8) rfl in_X9 8 (by decide) q332 rfl rfl dX9_next_95 ?_
                  refine W.eq (g2 := F0 m 98 ls [.int (iI u), .ref (ad 6000)]) rfl ?_
                  refine r_bipush hx hb dX9_next_98 (by decide) ?_
                  refine r_bipush hx hb dX9_next_100 (by decide) ?_
                  refine a_calli (a_runV (n := 3) (C0 := RX9) (b := (ad 6000)) (rest := []) (as := [.int (iI u), .int (iI 97), .int (iI 122)]) hCK hE hA hml (met_bet l adK adV st D E A V ad Cg u 97 122 x n 1 r u vl fa hn hbx v_rd k_rd v_tx k_tx (by omega) (by decide) (by decide)) (by have h := g_rec (r := 6000) (ci := 8) hK hG v_rd rfl k_rd; rw [e_rd] at h; exact h) q367 q369 qs2 q86 q370 (by decide +kernel) ⟨rfl, rfl⟩ hR ⟨Nat.le_of_ble_eq_true rfl, Nat.le_of_ble_eq_true rfl⟩ ⟨(by rw [hR]; show _ ≤ _; (try unfold amr); (try simp only []); omega), (by rw [hR]; show _ ≤ _; (try unfold amr); (try simp only []); omega)⟩ hG hS rfl hl.1 rfl (Nat.le_of_ble_eq_true rfl) dX9_next_102) hS (fun z137 ad138 V139 C140 H locs hp141 hG hS => ?_)
                  obtain ⟨rfl, rfl, rfl, rfl⟩ := hp141
                  refine W.eq (g2 := F0 m 105 ls [.int (iI (if u < n ∧ 97 ≤ x u ∧ x u ≤ 122 then 1 else 0))]) rfl ?_
                  refine r_ifeqB (tgt := 261) hx hb dX9_next_105 (by decide) (fun c142 => ?_) (fun c142 => ?_)
                  · have et : u = tT x n to := by rw [t1.2.1, ← ef, ← eu, rn_e (by intro q; have := of_decide_eq_true q.2; omega)]
                    exact a_vret hCK hQ hr hlk hG hS (by omega) (by omega) dX9_next_261 (⟨rfl, rfl, ⟨vl, by rw [k_rd, t1.2.2, ← ef, et], fun h => absurd (t1.1.symm.trans h) (by decide)⟩, hOc⟩)
                  · refine lv_aload_n hx hb dX9_next_108 rfl (lv_at hl 0 rfl) ?_
                    refine lv_dup hx hb dX9_next_109 rfl ?_
                    refine a_get hCK hG 6000 e_rd v_rd k_rd (ci := 8) rfl in_X9 8 (by decide) q332 rfl rfl dX9_next_110 ?_
                    refine W.eq (g2 := F0 m 113 ls [.int (iI u), .ref (ad 6000)]) rfl ?_
                    refine r_iconst hx hb dX9_next_113 ?_
                    refine r_iadd hx hb dX9_next_114 ?_
                    refine a_put (tyf := tyX9) hCK hG hS 6000 e_rd v_rd k_rd (ci := 8) rfl in_X9 tyX9_ok nmX9 8 (by decide) q332 rfl rfl rfl rfl (Nat.le_of_ble_eq_true rfl) dX9_next_115 (fun C143 H locs kk144 oo145 hG hS => ?_)
                    have k_rd : C143 6000 = .inr (8, [.ref (ad 6001), .ref (ad 6002), .ref (ad 1), .int (iI n), .ref (ad 6003), .ref (ad 6005), .int (iI 1), .int (iI r), .int (iI (u + 1)), .int (iI vl), .int (iI fa)]) := kk144
                    have k_tx : C143 1 = .inl (E 1, 300, ai x) := (oo145 1 (by omega)).trans k_tx
                    have hOc : ∀ q, (q ≠ 6000) → C143 q = C q := fun q hq => (oo145 q (by omega)).trans (hOc q hq)
                    refine lv_goto (tgt := 93) hx hb dX9_next_118 (by decide) ?_
                    exact ih135 (u + 1) V ad C143 (by omega) v_rd e_rd k_rd v_tx e_tx k_tx hOc (by omega) (by rw [← eu]; exact (rn_s (f := fLe x) (by omega) (decide_eq_true (by omega))).symm) rfl rfl _ _ _ hG hS (lv_sub hl [0] rfl)
              exact loop93_134 ((n - r : Int).toNat + 1) r V ad C131 (by omega) v_rd e_rd k_rd v_tx e_tx k_tx hOc (by omega) rfl rfl rfl _ _ _ hG hS (lv_sub hl [0] rfl)
          · have t1 := tok_end (x := x) (n := n) (p := to) (by omega)
            refine lv_aload_n hx hb dX9_next_65 rfl (lv_at hl 0 rfl) ?_
            refine r_iconst hx hb dX9_next_66 ?_
            refine a_put (tyf := tyX9) hCK hG hS 6000 e_rd v_rd k_rd (ci := 8) rfl in_X9 tyX9_ok nmX9 6 (by decide) q330 rfl rfl rfl rfl (Nat.le_of_ble_eq_true rfl) dX9_next_67 (fun C146 H locs kk147 oo148 hG hS => ?_)
            have k_rd : C146 6000 = .inr (8, [.ref (ad 6001), .ref (ad 6002), .ref (ad 1), .int (iI n), .ref (ad 6003), .ref (ad 6005), .int (iI 3), .int (iI r), .int (iI r), .int (iI vl), .int (iI fa)]) := kk147
            have k_tx : C146 1 = .inl (E 1, 300, ai x) := (oo148 1 (by omega)).trans k_tx
            have hOc : ∀ q, (q ≠ 6000) → C146 q = C q := fun q hq => (oo148 q (by omega)).trans (hOc q hq)
            refine lv_goto (tgt := 261) hx hb dX9_next_70 (by decide) ?_
            exact a_vret hCK hQ hr hlk hG hS (by omega) (by omega) dX9_next_261 (⟨rfl, rfl, ⟨vl, by rw [k_rd, t1.2.1, t1.2.2, ← ef, show r = n by omega], fun h => absurd (t1.1.symm.trans h) (by decide)⟩, hOc⟩)
        · refine lv_aload_n hx hb dX9_next_33 rfl (lv_at hl 0 rfl) ?_
          refine lv_dup hx hb dX9_next_34 rfl ?_
          refine a_get hCK hG 6000 e_rd v_rd k_rd (ci := 8) rfl in_X9 7 (by decide) q331 rfl rfl dX9_next_35 ?_
          refine W.eq (g2 := F0 m 38 ls [.int (iI r), .ref (ad 6000)]) rfl ?_
          refine r_iconst hx hb dX9_next_38 ?_
          refine r_iadd hx hb dX9_next_39 ?_
          refine a_put (tyf := tyX9) hCK hG hS 6000 e_rd v_rd k_rd (ci := 8) rfl in_X9 tyX9_ok nmX9 7 (by decide) q331 rfl rfl rfl rfl (Nat.le_of_ble_eq_true rfl) dX9_next_40 (fun C149 H locs kk150 oo151 hG hS => ?_)
          have k_rd : C149 6000 = .inr (8, [.ref (ad 6001), .ref (ad 6002), .ref (ad 1), .int (iI n), .ref (ad 6003), .ref (ad 6005), .int (iI k), .int (iI (r + 1)), .int (iI to), .int (iI vl), .int (iI fa)]) := kk150
          have k_tx : C149 1 = .inl (E 1, 300, ai x) := (oo151 1 (by omega)).trans k_tx
          have hOc : ∀ q, (q ≠ 6000) → C149 q = C q := fun q hq => (oo151 q (by omega)).trans (hOc q hq)
          refine lv_goto (tgt := 8) hx hb dX9_next_43 (by decide) ?_
          exact ih5 (r + 1) V ad C149 (by omega) v_rd e_rd k_rd v_tx e_tx k_tx hOc (by omega) (by rw [← er]; exact (rn_s (f := fSp x) (by omega) (decide_eq_true (by omega))).symm) rfl rfl _ _ _ hG hS (lv_sub hl [0] rfl)
  exact loop8_4 ((n - to : Int).toNat + 1) to V ad C1 (by omega) v_rd e_rd k_rd v_tx e_tx k_tx hOc (by omega) rfl rfl rfl _ _ _ hG hS (lv_sub hl [0] rfl)
