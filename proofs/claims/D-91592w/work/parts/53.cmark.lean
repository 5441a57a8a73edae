/-! THE COMPONENT: what a mark does -/
set_option maxRecDepth 100000
theorem dX8_brought_0 : decode cX8_brought 0 = .ok (.ldc2_w 15, 3) := by decide +kernel
theorem dX8_brought_3 : decode cX8_brought 3 = .ok (.ldc2_w 17, 3) := by decide +kernel
theorem dX8_brought_6 : decode cX8_brought 6 = .ok (.lload_n 0, 1) := by decide +kernel
theorem dX8_brought_7 : decode cX8_brought 7 = .ok (.invokestatic 19, 3) := by decide +kernel
theorem dX8_brought_10 : decode cX8_brought 10 = .ok (.invokestatic 25, 3) := by decide +kernel
theorem dX8_brought_13 : decode cX8_brought 13 = .ok (.l2i, 1) := by decide +kernel
theorem dX8_brought_14 : decode cX8_brought 14 = .ok (.ireturn, 1) := by decide +kernel
set_option maxHeartbeats 4000000 in
theorem csbrought (l : Launch) (v : Int) (rv : R64 v) : SM l yX8_brought cX8_brought 2 (some .int) (mrm 1) [.long (iL v)] (vp_Si (fun r => r = iI (clampZ v 1000000))) := by
  refine s_start (by decide) rfl (Nat.le_of_ble_eq_true rfl) ?_
  intro p e R s m args below meth c ls Q hR hQ hC hml hr hlk hl
  have hx := hC.1
  have hb := hC.2.1
  have hown := hC.2.2.1
  have hts := hC.2.2.2
  have hl : lv_has ls 2 [(0, .long (iL v))] := hl
  refine r_ldc2 hx hb (-1000000) hown (hts _ q889) (by decide) dX8_brought_0 ?_
  refine r_ldc2 hx hb 1000000 hown (hts _ q890) (by decide) dX8_brought_3 ?_
  refine lv_lload_n hx hb dX8_brought_6 rfl (lv_at hl 0 rfl) ?_
  refine s_calll (j_runS (n := 2) (rest := [.long (iL (-1000000))]) (as := [.long (iL 1000000), .long (iL v)]) hx hb hml hown hts ((met_minL l 1000000 v (by decide) (by first | exact rv | (split <;> omega) | omega)).jm) (fun _ _ _ _ _ => trivial) (fun _ _ _ => trivial) q891 q892 q76 q893 (by decide +kernel) ⟨rfl, rfl⟩ hR (by decide) ⟨Nat.zero_le _, Nat.zero_le _⟩ rfl hl.1 rfl (Nat.le_of_ble_eq_true rfl) dX8_brought_7) ?_
  refine s_calll (j_runS (n := 2) (rest := []) (as := [.long (iL (-1000000)), .long (iL (if v < 1000000 then v else 1000000))]) hx hb hml hown hts ((met_maxL l (-1000000) (if v < 1000000 then v else 1000000) (by decide) (by first | exact rv | (split <;> omega) | omega)).jm) (fun _ _ _ _ _ => trivial) (fun _ _ _ => trivial) q894 q895 q76 q896 (by decide +kernel) ⟨rfl, rfl⟩ hR (by decide) ⟨Nat.zero_le _, Nat.zero_le _⟩ rfl hl.1 rfl (Nat.le_of_ble_eq_true rfl) dX8_brought_10) ?_
  refine r_l2i hx hb dX8_brought_13 ?_
  exact s_iret hC hr hlk hQ dX8_brought_14 (by unfold clampZ; split <;> (try split) <;> (try split) <;> omega)

theorem and01 {a b : Int} (ha : a = 0 ∨ a = 1) (hb : b = 0 ∨ b = 1) : andZ a b = ofS 9 a b ∧ orZ a b = ofS 10 a b := by
  rcases ha with rfl | rfl <;> rcases hb with rfl | rfl <;> exact ⟨by decide, by decide⟩
theorem dX8_of_0 : decode cX8_of 0 = .ok (.aload_n 0, 1) := by decide +kernel
theorem dX8_of_1 : decode cX8_of 1 = .ok (.getfield 9, 3) := by decide +kernel
theorem dX8_of_4 : decode cX8_of 4 = .ok (.tableswitch 192 38 62 #[188, 192, 192, 192, 134, 116, 192, 125, 192, 143, 192, 192, 192, 192, 192, 192, 192, 192, 192, 192, 192, 192, 155, 177, 166], 116) := by decide +kernel
theorem dX8_of_120 : decode cX8_of 120 = .ok (.iload_n 1, 1) := by decide +kernel
theorem dX8_of_121 : decode cX8_of 121 = .ok (.i2l, 1) := by decide +kernel
theorem dX8_of_122 : decode cX8_of 122 = .ok (.iload_n 2, 1) := by decide +kernel
theorem dX8_of_123 : decode cX8_of 123 = .ok (.i2l, 1) := by decide +kernel
theorem dX8_of_124 : decode cX8_of 124 = .ok (.ladd, 1) := by decide +kernel
theorem dX8_of_125 : decode cX8_of 125 = .ok (.invokestatic 28, 3) := by decide +kernel
theorem dX8_of_128 : decode cX8_of 128 = .ok (.ireturn, 1) := by decide +kernel
theorem dX8_of_129 : decode cX8_of 129 = .ok (.iload_n 1, 1) := by decide +kernel
theorem dX8_of_130 : decode cX8_of 130 = .ok (.i2l, 1) := by decide +kernel
theorem dX8_of_131 : decode cX8_of 131 = .ok (.iload_n 2, 1) := by decide +kernel
theorem dX8_of_132 : decode cX8_of 132 = .ok (.i2l, 1) := by decide +kernel
theorem dX8_of_133 : decode cX8_of 133 = .ok (.lsub, 1) := by decide +kernel
theorem dX8_of_134 : decode cX8_of 134 = .ok (.invokestatic 28, 3) := by decide +kernel
theorem dX8_of_137 : decode cX8_of 137 = .ok (.ireturn, 1) := by decide +kernel
theorem dX8_of_138 : decode cX8_of 138 = .ok (.iload_n 1, 1) := by decide +kernel
theorem dX8_of_139 : decode cX8_of 139 = .ok (.i2l, 1) := by decide +kernel
theorem dX8_of_140 : decode cX8_of 140 = .ok (.iload_n 2, 1) := by decide +kernel
theorem dX8_of_141 : decode cX8_of 141 = .ok (.i2l, 1) := by decide +kernel
theorem dX8_of_142 : decode cX8_of 142 = .ok (.lmul, 1) := by decide +kernel
theorem dX8_of_143 : decode cX8_of 143 = .ok (.invokestatic 28, 3) := by decide +kernel
theorem dX8_of_146 : decode cX8_of 146 = .ok (.ireturn, 1) := by decide +kernel
theorem dX8_of_147 : decode cX8_of 147 = .ok (.iload_n 2, 1) := by decide +kernel
theorem dX8_of_148 : decode cX8_of 148 = .ok (.ifCond .ne 7, 3) := by decide +kernel
theorem dX8_of_151 : decode cX8_of 151 = .ok (.iconst 0, 1) := by decide +kernel
theorem dX8_of_152 : decode cX8_of 152 = .ok (.goto 6, 3) := by decide +kernel
theorem dX8_of_155 : decode cX8_of 155 = .ok (.iload_n 1, 1) := by decide +kernel
theorem dX8_of_156 : decode cX8_of 156 = .ok (.iload_n 2, 1) := by decide +kernel
theorem dX8_of_157 : decode cX8_of 157 = .ok (.idiv, 1) := by decide +kernel
theorem dX8_of_158 : decode cX8_of 158 = .ok (.ireturn, 1) := by decide +kernel
theorem dX8_of_159 : decode cX8_of 159 = .ok (.iload_n 1, 1) := by decide +kernel
theorem dX8_of_160 : decode cX8_of 160 = .ok (.iload_n 2, 1) := by decide +kernel
theorem dX8_of_161 : decode cX8_of 161 = .ok (.if_icmp .ge 7, 3) := by decide +kernel
theorem dX8_of_164 : decode cX8_of 164 = .ok (.iconst 1, 1) := by decide +kernel
theorem dX8_of_165 : decode cX8_of 165 = .ok (.goto 4, 3) := by decide +kernel
theorem dX8_of_168 : decode cX8_of 168 = .ok (.iconst 0, 1) := by decide +kernel
theorem dX8_of_169 : decode cX8_of 169 = .ok (.ireturn, 1) := by decide +kernel
theorem dX8_of_170 : decode cX8_of 170 = .ok (.iload_n 1, 1) := by decide +kernel
theorem dX8_of_171 : decode cX8_of 171 = .ok (.iload_n 2, 1) := by decide +kernel
theorem dX8_of_172 : decode cX8_of 172 = .ok (.if_icmp .le 7, 3) := by decide +kernel
theorem dX8_of_175 : decode cX8_of 175 = .ok (.iconst 1, 1) := by decide +kernel
theorem dX8_of_176 : decode cX8_of 176 = .ok (.goto 4, 3) := by decide +kernel
theorem dX8_of_179 : decode cX8_of 179 = .ok (.iconst 0, 1) := by decide +kernel
theorem dX8_of_180 : decode cX8_of 180 = .ok (.ireturn, 1) := by decide +kernel
theorem dX8_of_181 : decode cX8_of 181 = .ok (.iload_n 1, 1) := by decide +kernel
theorem dX8_of_182 : decode cX8_of 182 = .ok (.iload_n 2, 1) := by decide +kernel
theorem dX8_of_183 : decode cX8_of 183 = .ok (.if_icmp .ne 7, 3) := by decide +kernel
theorem dX8_of_186 : decode cX8_of 186 = .ok (.iconst 1, 1) := by decide +kernel
theorem dX8_of_187 : decode cX8_of 187 = .ok (.goto 4, 3) := by decide +kernel
theorem dX8_of_190 : decode cX8_of 190 = .ok (.iconst 0, 1) := by decide +kernel
theorem dX8_of_191 : decode cX8_of 191 = .ok (.ireturn, 1) := by decide +kernel
theorem dX8_of_192 : decode cX8_of 192 = .ok (.iload_n 1, 1) := by decide +kernel
theorem dX8_of_193 : decode cX8_of 193 = .ok (.iload_n 2, 1) := by decide +kernel
theorem dX8_of_194 : decode cX8_of 194 = .ok (.iand, 1) := by decide +kernel
theorem dX8_of_195 : decode cX8_of 195 = .ok (.ireturn, 1) := by decide +kernel
theorem dX8_of_196 : decode cX8_of 196 = .ok (.iload_n 1, 1) := by decide +kernel
theorem dX8_of_197 : decode cX8_of 197 = .ok (.iload_n 2, 1) := by decide +kernel
theorem dX8_of_198 : decode cX8_of 198 = .ok (.ior, 1) := by decide +kernel
theorem dX8_of_199 : decode cX8_of 199 = .ok (.ireturn, 1) := by decide +kernel
set_option maxHeartbeats 4000000 in
theorem csof (l : Launch) (adK adV st : Nat → Nat) (D : va_G) (E : Nat → ClassId) (A : Nat → Prop) (ad nv : Nat → Nat) (I : Nat → Int) (F : Nat → Int → Int) (S : Nat → Nat → Int) (Y : Nat → Int → Int) (L : Nat → Nat) (r : Nat) (hrV : cV nv F S r) (d : Int) (hd : 2 ≤ d ∧ d ≤ 10) (a b : Int) (ha : -1000000 ≤ a ∧ a ≤ 1000000) (hb0 : -1000000 ≤ b ∧ b ≤ 1000000) (h9 : 9 ≤ d → (a = 0 ∨ a = 1) ∧ (b = 0 ∨ b = 1)) (hrc : cC E ad I F S Y L r = .inr (7, [.int (iI (sgO d))])) : JM l yX8_of cX8_of 3 (some .int) (mrm 2) (CX adK adV st D E A ad nv I F S Y L) [.ref (ad r), .int (iI a), .int (iI b)] (vp_Si (fun r => r = iI (ofS d a b))) := by
  refine j_start (by decide) rfl (Nat.le_of_ble_eq_true rfl) ?_
  intro p e R s m args below meth c ls Q hR hQ hC hml hr hlk hB hl
  have hx := hC.1
  have hb := hC.2.1
  have hown := hC.2.2.1
  have hts := hC.2.2.2
  have hS : va_S A s.heap s.heap [] := va_S.rf
  have hK := hB.1
  have hG := hB.2.1
  have hE := hB.2.2
  have hCK : CK p m c _ s args _ D E := ⟨hx, hb, hown, hts, hK⟩
  have hl : lv_has ls 3 [(0, .ref (ad r)), (1, .int (iI a)), (2, .int (iI b))] := hl
  have hmab := mul_bd (A := 1000000) (B := 1000000) (a := a) (b := b) ha hb0
  rcases (show d = 2 ∨ d = 3 ∨ d = 4 ∨ d = 5 ∨ d = 6 ∨ d = 7 ∨ d = 8 ∨ d = 9 ∨ d = 10 by omega) with rfl | rfl | rfl | rfl | rfl | rfl | rfl | rfl | rfl
  · have hrc2 : cC E ad I F S Y L r = .inr (7, [.int (iI 43)]) := hrc
    refine lv_aload_n hx hb dX8_of_0 rfl (lv_at hl 0 rfl) ?_
    refine g_get hCK hG r hrV hrc2 (ci := 7) rfl in_X8 0 (by decide) q524 rfl rfl dX8_of_1 ?_
    refine W.eq (g2 := F0 m 4 ls [.int (iI 43)]) rfl ?_
    refine lv_tableIn (tgt := 120) (off := 116) hx hb dX8_of_4 (by decide) (by decide) (by decide) (by decide) ?_
    refine lv_iload_n hx hb dX8_of_120 rfl (lv_at hl 1 rfl) ?_
    refine r_i2l hx hb dX8_of_121 (by omega) ?_
    refine lv_iload_n hx hb dX8_of_122 rfl (lv_at hl 2 rfl) ?_
    refine r_i2l hx hb dX8_of_123 (by omega) ?_
    refine r_ladd hx hb dX8_of_124 ?_
    refine s_calli (j_runS (n := 1) (rest := []) (as := [.long (iL (a + b))]) hx hb hml hown hts ((csbrought l (a + b) (by omega)).jm) (fun _ _ _ _ _ => trivial) (fun _ _ _ => trivial) q886 q887 q85 q888 (by decide +kernel) ⟨rfl, rfl⟩ hR (by decide) ⟨Nat.zero_le _, Nat.zero_le _⟩ rfl hl.1 rfl (Nat.le_of_ble_eq_true rfl) dX8_of_125) ?_
    exact j_iret hC hr hlk hQ dX8_of_128 (by unfold ofS; rw [if_pos rfl])
  · have hrc2 : cC E ad I F S Y L r = .inr (7, [.int (iI 45)]) := hrc
    refine lv_aload_n hx hb dX8_of_0 rfl (lv_at hl 0 rfl) ?_
    refine g_get hCK hG r hrV hrc2 (ci := 7) rfl in_X8 0 (by decide) q524 rfl rfl dX8_of_1 ?_
    refine W.eq (g2 := F0 m 4 ls [.int (iI 45)]) rfl ?_
    refine lv_tableIn (tgt := 129) (off := 125) hx hb dX8_of_4 (by decide) (by decide) (by decide) (by decide) ?_
    refine lv_iload_n hx hb dX8_of_129 rfl (lv_at hl 1 rfl) ?_
    refine r_i2l hx hb dX8_of_130 (by omega) ?_
    refine lv_iload_n hx hb dX8_of_131 rfl (lv_at hl 2 rfl) ?_
    refine r_i2l hx hb dX8_of_132 (by omega) ?_
    refine r_lsub hx hb dX8_of_133 ?_
    refine s_calli (j_runS (n := 1) (rest := []) (as := [.long (iL (a - b))]) hx hb hml hown hts ((csbrought l (a - b) (by omega)).jm) (fun _ _ _ _ _ => trivial) (fun _ _ _ => trivial) q886 q887 q85 q888 (by decide +kernel) ⟨rfl, rfl⟩ hR (by decide) ⟨Nat.zero_le _, Nat.zero_le _⟩ rfl hl.1 rfl (Nat.le_of_ble_eq_true rfl) dX8_of_134) ?_
    exact j_iret hC hr hlk hQ dX8_of_137 (by unfold ofS; rw [if_neg (by decide), if_pos rfl])
  · have hrc2 : cC E ad I F S Y L r = .inr (7, [.int (iI 42)]) := hrc
    refine lv_aload_n hx hb dX8_of_0 rfl (lv_at hl 0 rfl) ?_
    refine g_get hCK hG r hrV hrc2 (ci := 7) rfl in_X8 0 (by decide) q524 rfl rfl dX8_of_1 ?_
    refine W.eq (g2 := F0 m 4 ls [.int (iI 42)]) rfl ?_
    refine lv_tableIn (tgt := 138) (off := 134) hx hb dX8_of_4 (by decide) (by decide) (by decide) (by decide) ?_
    refine lv_iload_n hx hb dX8_of_138 rfl (lv_at hl 1 rfl) ?_
    refine r_i2l hx hb dX8_of_139 (by omega) ?_
    refine lv_iload_n hx hb dX8_of_140 rfl (lv_at hl 2 rfl) ?_
    refine r_i2l hx hb dX8_of_141 (by omega) ?_
    refine r_lmul hx hb dX8_of_142 ?_
    refine s_calli (j_runS (n := 1) (rest := []) (as := [.long (iL (a * b))]) hx hb hml hown hts ((csbrought l (a * b) (by omega)).jm) (fun _ _ _ _ _ => trivial) (fun _ _ _ => trivial) q886 q887 q85 q888 (by decide +kernel) ⟨rfl, rfl⟩ hR (by decide) ⟨Nat.zero_le _, Nat.zero_le _⟩ rfl hl.1 rfl (Nat.le_of_ble_eq_true rfl) dX8_of_143) ?_
    exact j_iret hC hr hlk hQ dX8_of_146 (by unfold ofS; rw [if_neg (by decide), if_neg (by decide), if_pos rfl])
  · have hrc2 : cC E ad I F S Y L r = .inr (7, [.int (iI 47)]) := hrc
    refine lv_aload_n hx hb dX8_of_0 rfl (lv_at hl 0 rfl) ?_
    refine g_get hCK hG r hrV hrc2 (ci := 7) rfl in_X8 0 (by decide) q524 rfl rfl dX8_of_1 ?_
    refine W.eq (g2 := F0 m 4 ls [.int (iI 47)]) rfl ?_
    refine lv_tableIn (tgt := 147) (off := 143) hx hb dX8_of_4 (by decide) (by decide) (by decide) (by decide) ?_
    refine lv_iload_n hx hb dX8_of_147 rfl (lv_at hl 2 rfl) ?_
    refine r_if_ne (tgt := 155) hx hb dX8_of_148 (by decide) (by omega) (fun cz => ?_) (fun cz => ?_)
    · refine lv_iload_n hx hb dX8_of_155 rfl (lv_at hl 1 rfl) ?_
      refine lv_iload_n hx hb dX8_of_156 rfl (lv_at hl 2 rfl) ?_
      refine r_idiv hx hb dX8_of_157 (by omega) (by omega) (by omega) ?_
      exact j_iret hC hr hlk hQ dX8_of_158 (by unfold ofS; rw [if_neg (by decide), if_neg (by decide), if_neg (by decide), if_pos rfl, if_neg cz])
    · refine r_iconst hx hb dX8_of_151 ?_
      refine lv_goto (tgt := 158) hx hb dX8_of_152 (by decide) ?_
      exact j_iret hC hr hlk hQ dX8_of_158 (by unfold ofS; rw [if_neg (by decide), if_neg (by decide), if_neg (by decide), if_pos rfl, if_pos cz])
  · have hrc2 : cC E ad I F S Y L r = .inr (7, [.int (iI 60)]) := hrc
    refine lv_aload_n hx hb dX8_of_0 rfl (lv_at hl 0 rfl) ?_
    refine g_get hCK hG r hrV hrc2 (ci := 7) rfl in_X8 0 (by decide) q524 rfl rfl dX8_of_1 ?_
    refine W.eq (g2 := F0 m 4 ls [.int (iI 60)]) rfl ?_
    refine lv_tableIn (tgt := 159) (off := 155) hx hb dX8_of_4 (by decide) (by decide) (by decide) (by decide) ?_
    refine lv_iload_n hx hb dX8_of_159 rfl (lv_at hl 1 rfl) ?_
    refine lv_iload_n hx hb dX8_of_160 rfl (lv_at hl 2 rfl) ?_
    refine r_icmp_ge (tgt := 168) hx hb dX8_of_161 (by decide) (by omega) (by omega) (fun c1 => ?_) (fun c1 => ?_)
    · refine r_iconst hx hb dX8_of_168 ?_
      exact j_iret hC hr hlk hQ dX8_of_169 (by unfold ofS; rw [if_neg (by decide), if_neg (by decide), if_neg (by decide), if_neg (by decide), if_pos rfl]; first | rw [if_pos (by omega)] | rw [if_neg (by omega)])
    · refine r_iconst hx hb dX8_of_164 ?_
      refine lv_goto (tgt := 169) hx hb dX8_of_165 (by decide) ?_
      exact j_iret hC hr hlk hQ dX8_of_169 (by unfold ofS; rw [if_neg (by decide), if_neg (by decide), if_neg (by decide), if_neg (by decide), if_pos rfl]; first | rw [if_pos (by omega)] | rw [if_neg (by omega)])
  · have hrc2 : cC E ad I F S Y L r = .inr (7, [.int (iI 62)]) := hrc
    refine lv_aload_n hx hb dX8_of_0 rfl (lv_at hl 0 rfl) ?_
    refine g_get hCK hG r hrV hrc2 (ci := 7) rfl in_X8 0 (by decide) q524 rfl rfl dX8_of_1 ?_
    refine W.eq (g2 := F0 m 4 ls [.int (iI 62)]) rfl ?_
    refine lv_tableIn (tgt := 170) (off := 166) hx hb dX8_of_4 (by decide) (by decide) (by decide) (by decide) ?_
    refine lv_iload_n hx hb dX8_of_170 rfl (lv_at hl 1 rfl) ?_
    refine lv_iload_n hx hb dX8_of_171 rfl (lv_at hl 2 rfl) ?_
    refine r_icmp_le (tgt := 179) hx hb dX8_of_172 (by decide) (by omega) (by omega) (fun c2 => ?_) (fun c2 => ?_)
    · refine r_iconst hx hb dX8_of_179 ?_
      exact j_iret hC hr hlk hQ dX8_of_180 (by unfold ofS; rw [if_neg (by decide), if_neg (by decide), if_neg (by decide), if_neg (by decide), if_neg (by decide), if_pos rfl]; first | rw [if_pos (by omega)] | rw [if_neg (by omega)])
    · refine r_iconst hx hb dX8_of_175 ?_
      refine lv_goto (tgt := 180) hx hb dX8_of_176 (by decide) ?_
      exact j_iret hC hr hlk hQ dX8_of_180 (by unfold ofS; rw [if_neg (by decide), if_neg (by decide), if_neg (by decide), if_neg (by decide), if_neg (by decide), if_pos rfl]; first | rw [if_pos (by omega)] | rw [if_neg (by omega)])
  · have hrc2 : cC E ad I F S Y L r = .inr (7, [.int (iI 61)]) := hrc
    refine lv_aload_n hx hb dX8_of_0 rfl (lv_at hl 0 rfl) ?_
    refine g_get hCK hG r hrV hrc2 (ci := 7) rfl in_X8 0 (by decide) q524 rfl rfl dX8_of_1 ?_
    refine W.eq (g2 := F0 m 4 ls [.int (iI 61)]) rfl ?_
    refine lv_tableIn (tgt := 181) (off := 177) hx hb dX8_of_4 (by decide) (by decide) (by decide) (by decide) ?_
    refine lv_iload_n hx hb dX8_of_181 rfl (lv_at hl 1 rfl) ?_
    refine lv_iload_n hx hb dX8_of_182 rfl (lv_at hl 2 rfl) ?_
    refine r_icmp_ne (tgt := 190) hx hb dX8_of_183 (by decide) (by omega) (by omega) (fun c3 => ?_) (fun c3 => ?_)
    · refine r_iconst hx hb dX8_of_190 ?_
      exact j_iret hC hr hlk hQ dX8_of_191 (by unfold ofS; rw [if_neg (by decide), if_neg (by decide), if_neg (by decide), if_neg (by decide), if_neg (by decide), if_neg (by decide), if_pos rfl]; first | rw [if_pos (by omega)] | rw [if_neg (by omega)])
    · refine r_iconst hx hb dX8_of_186 ?_
      refine lv_goto (tgt := 191) hx hb dX8_of_187 (by decide) ?_
      exact j_iret hC hr hlk hQ dX8_of_191 (by unfold ofS; rw [if_neg (by decide), if_neg (by decide), if_neg (by decide), if_neg (by decide), if_neg (by decide), if_neg (by decide), if_pos rfl]; first | rw [if_pos (by omega)] | rw [if_neg (by omega)])
  · have hrc2 : cC E ad I F S Y L r = .inr (7, [.int (iI 38)]) := hrc
    refine lv_aload_n hx hb dX8_of_0 rfl (lv_at hl 0 rfl) ?_
    refine g_get hCK hG r hrV hrc2 (ci := 7) rfl in_X8 0 (by decide) q524 rfl rfl dX8_of_1 ?_
    refine W.eq (g2 := F0 m 4 ls [.int (iI 38)]) rfl ?_
    refine lv_tableIn (tgt := 192) (off := 188) hx hb dX8_of_4 (by decide) (by decide) (by decide) (by decide) ?_
    refine lv_iload_n hx hb dX8_of_192 rfl (lv_at hl 1 rfl) ?_
    refine lv_iload_n hx hb dX8_of_193 rfl (lv_at hl 2 rfl) ?_
    refine r_iand hx hb dX8_of_194 ?_
    exact j_iret hC hr hlk hQ dX8_of_195 ((and01 (h9 (by decide)).1 (h9 (by decide)).2).1)
  · have hrc2 : cC E ad I F S Y L r = .inr (7, [.int (iI 124)]) := hrc
    refine lv_aload_n hx hb dX8_of_0 rfl (lv_at hl 0 rfl) ?_
    refine g_get hCK hG r hrV hrc2 (ci := 7) rfl in_X8 0 (by decide) q524 rfl rfl dX8_of_1 ?_
    refine W.eq (g2 := F0 m 4 ls [.int (iI 124)]) rfl ?_
    refine lv_tableOut (tgt := 196) hx hb dX8_of_4 (by decide) (by decide) ?_
    refine lv_iload_n hx hb dX8_of_196 rfl (lv_at hl 1 rfl) ?_
    refine lv_iload_n hx hb dX8_of_197 rfl (lv_at hl 2 rfl) ?_
    refine r_ior hx hb dX8_of_198 ?_
    exact j_iret hC hr hlk hQ dX8_of_199 ((and01 (h9 (by decide)).1 (h9 (by decide)).2).2)
