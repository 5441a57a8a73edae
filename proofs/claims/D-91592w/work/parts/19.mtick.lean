/-! THE MODEL: a tick -/
set_option maxRecDepth 100000

theorem upF_in (F : Nat → Int → Int) {k j : Nat} (h : k ≠ j) (a b : Int → Int) (z v : Int) : upF (va_up (va_up F k a) j b) k z v = va_up (va_up F k (updZ a z v)) j b := by
  funext i
  by_cases h1 : i = k
  · subst h1; simp [upF, va_up, h]
  · by_cases h2 : i = j <;> simp [upF, va_up, h1, h2, h.symm]
theorem upI3 (I : Nat → Int) (x a b f a1 b1 : Int) : va_up (va_up (va_up (va_up (va_up (va_up I 70 x) 66 a) 67 b) 70 f) 66 a1) 67 b1 = va_up (va_up (va_up I 70 f) 66 a1) 67 b1 := by
  funext i
  by_cases h1 : i = 67
  · simp [va_up, h1]
  by_cases h2 : i = 66
  · simp [va_up, h2]
  by_cases h3 : i = 70
  · simp [va_up, h3]
  simp [va_up, h1, h2, h3]
theorem setLot_ext8 {F F1 : Nat → Int → Int} {lot : Int} {J : Nat → Int} {G : Nat → Int → Int} {g g1 : Int → Int} (h27 : fedT (F 27) (12 * lot) (G 0) 12 = F1 27) (h28 : updZ (F 28) lot (J 0) = F1 28) (h29 : updZ (F 29) lot (J 1) = F1 29) (h30 : updZ (F 30) lot (J 2) = F1 30) (h31 : updZ (F 31) lot (J 3) = F1 31) (h32 : updZ (F 32) lot (J 4) = F1 32) (h33 : F 33 = F1 33) (h34 : F 34 = F1 34) (h35 : fedT (F 35) (4 * lot) (G 3) 4 = F1 35) (h71 : g = F1 71) (h72 : g1 = F1 72) (ho : ∀ k, k ≠ 27 → k ≠ 28 → k ≠ 29 → k ≠ 30 → k ≠ 31 → k ≠ 32 → k ≠ 33 → k ≠ 34 → k ≠ 35 → k ≠ 71 → k ≠ 72 → F k = F1 k) : va_up (va_up (setLot F lot J G g g1) 33 (F 33)) 34 (F 34) = F1 := by
  rw [setLot_ext (F1 := va_up (va_up F1 33 (fedT (F 33) (6 * lot) (G 1) 6)) 34 (fedT (F 34) (6 * lot) (G 2) 6)) h27 h28 h29 h30 h31 h32 rfl rfl h35 h71 h72 (fun k n27 n28 n29 n30 n31 n32 n33 n34 n35 n71 n72 => by rw [ho k n27 n28 n29 n30 n31 n32 n33 n34 n35 n71 n72]; simp [va_up, n33, n34])]
  funext k
  by_cases c1 : k = 34
  · subst c1; simp [va_up, h34]
  by_cases c2 : k = 33
  · subst c2; simp [va_up, h33]
  simp [va_up, c1, c2]
theorem gShip.mono {a b : Int} {J : Nat → Int} {G : Nat → Int → Int} (h : gShip a J G) (hab : a ≤ b) : gShip b J G := by
  obtain ⟨h0, h1, h2, h3, h4⟩ := h
  exact ⟨h0, h1, by omega, by omega, h4⟩
theorem dX2_goesOn_0 : decode cX2_goesOn 0 = .ok (.aload_n 0, 1) := by decide +kernel
theorem dX2_goesOn_1 : decode cX2_goesOn 1 = .ok (.iconst 0, 1) := by decide +kernel
theorem dX2_goesOn_2 : decode cX2_goesOn 2 = .ok (.putfield 240, 3) := by decide +kernel
theorem dX2_goesOn_5 : decode cX2_goesOn 5 = .ok (.aload_n 0, 1) := by decide +kernel
theorem dX2_goesOn_6 : decode cX2_goesOn 6 = .ok (.getfield 87, 3) := by decide +kernel
theorem dX2_goesOn_9 : decode cX2_goesOn 9 = .ok (.iload_n 1, 1) := by decide +kernel
theorem dX2_goesOn_10 : decode cX2_goesOn 10 = .ok (.baload, 1) := by decide +kernel
theorem dX2_goesOn_11 : decode cX2_goesOn 11 = .ok (.ifCond .eq 5, 3) := by decide +kernel
theorem dX2_goesOn_14 : decode cX2_goesOn 14 = .ok (.iconst 0, 1) := by decide +kernel
theorem dX2_goesOn_15 : decode cX2_goesOn 15 = .ok (.ireturn, 1) := by decide +kernel
theorem dX2_goesOn_16 : decode cX2_goesOn 16 = .ok (.aload_n 0, 1) := by decide +kernel
theorem dX2_goesOn_17 : decode cX2_goesOn 17 = .ok (.iload_n 1, 1) := by decide +kernel
theorem dX2_goesOn_18 : decode cX2_goesOn 18 = .ok (.invokevirtual 243, 3) := by decide +kernel
theorem dX2_goesOn_21 : decode cX2_goesOn 21 = .ok (.aload_n 0, 1) := by decide +kernel
theorem dX2_goesOn_22 : decode cX2_goesOn 22 = .ok (.aload_n 0, 1) := by decide +kernel
theorem dX2_goesOn_23 : decode cX2_goesOn 23 = .ok (.getfield 75, 3) := by decide +kernel
theorem dX2_goesOn_26 : decode cX2_goesOn 26 = .ok (.iload_n 1, 1) := by decide +kernel
theorem dX2_goesOn_27 : decode cX2_goesOn 27 = .ok (.iaload, 1) := by decide +kernel
theorem dX2_goesOn_28 : decode cX2_goesOn 28 = .ok (.invokevirtual 214, 3) := by decide +kernel
theorem dX2_goesOn_31 : decode cX2_goesOn 31 = .ok (.ldc 205, 2) := by decide +kernel
theorem dX2_goesOn_33 : decode cX2_goesOn 33 = .ok (.if_icmp .ne 12, 3) := by decide +kernel
theorem dX2_goesOn_36 : decode cX2_goesOn 36 = .ok (.aload_n 0, 1) := by decide +kernel
theorem dX2_goesOn_37 : decode cX2_goesOn 37 = .ok (.getfield 87, 3) := by decide +kernel
theorem dX2_goesOn_40 : decode cX2_goesOn 40 = .ok (.iload_n 1, 1) := by decide +kernel
theorem dX2_goesOn_41 : decode cX2_goesOn 41 = .ok (.iconst 1, 1) := by decide +kernel
theorem dX2_goesOn_42 : decode cX2_goesOn 42 = .ok (.bastore, 1) := by decide +kernel
theorem dX2_goesOn_43 : decode cX2_goesOn 43 = .ok (.iconst 0, 1) := by decide +kernel
theorem dX2_goesOn_44 : decode cX2_goesOn 44 = .ok (.ireturn, 1) := by decide +kernel
theorem dX2_goesOn_45 : decode cX2_goesOn 45 = .ok (.iconst 4, 1) := by decide +kernel
theorem dX2_goesOn_46 : decode cX2_goesOn 46 = .ok (.iload_n 1, 1) := by decide +kernel
theorem dX2_goesOn_47 : decode cX2_goesOn 47 = .ok (.imul, 1) := by decide +kernel
theorem dX2_goesOn_48 : decode cX2_goesOn 48 = .ok (.istore 4, 2) := by decide +kernel
theorem dX2_goesOn_50 : decode cX2_goesOn 50 = .ok (.aload_n 0, 1) := by decide +kernel
theorem dX2_goesOn_51 : decode cX2_goesOn 51 = .ok (.getfield 96, 3) := by decide +kernel
theorem dX2_goesOn_54 : decode cX2_goesOn 54 = .ok (.iload 4, 2) := by decide +kernel
theorem dX2_goesOn_56 : decode cX2_goesOn 56 = .ok (.aload_n 0, 1) := by decide +kernel
theorem dX2_goesOn_57 : decode cX2_goesOn 57 = .ok (.iload_n 1, 1) := by decide +kernel
theorem dX2_goesOn_58 : decode cX2_goesOn 58 = .ok (.aload_n 0, 1) := by decide +kernel
theorem dX2_goesOn_59 : decode cX2_goesOn 59 = .ok (.getfield 75, 3) := by decide +kernel
theorem dX2_goesOn_62 : decode cX2_goesOn 62 = .ok (.iload_n 1, 1) := by decide +kernel
theorem dX2_goesOn_63 : decode cX2_goesOn 63 = .ok (.iaload, 1) := by decide +kernel
theorem dX2_goesOn_64 : decode cX2_goesOn 64 = .ok (.invokevirtual 218, 3) := by decide +kernel
theorem dX2_goesOn_67 : decode cX2_goesOn 67 = .ok (.lneg, 1) := by decide +kernel
theorem dX2_goesOn_68 : decode cX2_goesOn 68 = .ok (.aload_n 0, 1) := by decide +kernel
theorem dX2_goesOn_69 : decode cX2_goesOn 69 = .ok (.getfield 62, 3) := by decide +kernel
theorem dX2_goesOn_72 : decode cX2_goesOn 72 = .ok (.i2l, 1) := by decide +kernel
theorem dX2_goesOn_73 : decode cX2_goesOn 73 = .ok (.ldiv, 1) := by decide +kernel
theorem dX2_goesOn_74 : decode cX2_goesOn 74 = .ok (.l2i, 1) := by decide +kernel
theorem dX2_goesOn_75 : decode cX2_goesOn 75 = .ok (.iastore, 1) := by decide +kernel
theorem dX2_goesOn_76 : decode cX2_goesOn 76 = .ok (.aload_n 0, 1) := by decide +kernel
theorem dX2_goesOn_77 : decode cX2_goesOn 77 = .ok (.getfield 96, 3) := by decide +kernel
theorem dX2_goesOn_80 : decode cX2_goesOn 80 = .ok (.iload 4, 2) := by decide +kernel
theorem dX2_goesOn_82 : decode cX2_goesOn 82 = .ok (.iconst 1, 1) := by decide +kernel
theorem dX2_goesOn_83 : decode cX2_goesOn 83 = .ok (.iadd, 1) := by decide +kernel
theorem dX2_goesOn_84 : decode cX2_goesOn 84 = .ok (.aload_n 0, 1) := by decide +kernel
theorem dX2_goesOn_85 : decode cX2_goesOn 85 = .ok (.iload_n 2, 1) := by decide +kernel
theorem dX2_goesOn_86 : decode cX2_goesOn 86 = .ok (.invokevirtual 233, 3) := by decide +kernel
theorem dX2_goesOn_89 : decode cX2_goesOn 89 = .ok (.iastore, 1) := by decide +kernel
theorem dX2_goesOn_90 : decode cX2_goesOn 90 = .ok (.aload_n 0, 1) := by decide +kernel
theorem dX2_goesOn_91 : decode cX2_goesOn 91 = .ok (.getfield 96, 3) := by decide +kernel
theorem dX2_goesOn_94 : decode cX2_goesOn 94 = .ok (.iload 4, 2) := by decide +kernel
theorem dX2_goesOn_96 : decode cX2_goesOn 96 = .ok (.iconst 2, 1) := by decide +kernel
theorem dX2_goesOn_97 : decode cX2_goesOn 97 = .ok (.iadd, 1) := by decide +kernel
theorem dX2_goesOn_98 : decode cX2_goesOn 98 = .ok (.aload_n 0, 1) := by decide +kernel
theorem dX2_goesOn_99 : decode cX2_goesOn 99 = .ok (.getfield 78, 3) := by decide +kernel
theorem dX2_goesOn_102 : decode cX2_goesOn 102 = .ok (.iload_n 1, 1) := by decide +kernel
theorem dX2_goesOn_103 : decode cX2_goesOn 103 = .ok (.iaload, 1) := by decide +kernel
theorem dX2_goesOn_104 : decode cX2_goesOn 104 = .ok (.ineg, 1) := by decide +kernel
theorem dX2_goesOn_105 : decode cX2_goesOn 105 = .ok (.aload_n 0, 1) := by decide +kernel
theorem dX2_goesOn_106 : decode cX2_goesOn 106 = .ok (.getfield 66, 3) := by decide +kernel
theorem dX2_goesOn_109 : decode cX2_goesOn 109 = .ok (.imul, 1) := by decide +kernel
theorem dX2_goesOn_110 : decode cX2_goesOn 110 = .ok (.bipush 10, 2) := by decide +kernel
theorem dX2_goesOn_112 : decode cX2_goesOn 112 = .ok (.idiv, 1) := by decide +kernel
theorem dX2_goesOn_113 : decode cX2_goesOn 113 = .ok (.iastore, 1) := by decide +kernel
theorem dX2_goesOn_114 : decode cX2_goesOn 114 = .ok (.aload_n 0, 1) := by decide +kernel
theorem dX2_goesOn_115 : decode cX2_goesOn 115 = .ok (.getfield 96, 3) := by decide +kernel
theorem dX2_goesOn_118 : decode cX2_goesOn 118 = .ok (.iload 4, 2) := by decide +kernel
theorem dX2_goesOn_120 : decode cX2_goesOn 120 = .ok (.iconst 3, 1) := by decide +kernel
theorem dX2_goesOn_121 : decode cX2_goesOn 121 = .ok (.iadd, 1) := by decide +kernel
theorem dX2_goesOn_122 : decode cX2_goesOn 122 = .ok (.aload_n 0, 1) := by decide +kernel
theorem dX2_goesOn_123 : decode cX2_goesOn 123 = .ok (.iconst 1, 1) := by decide +kernel
theorem dX2_goesOn_124 : decode cX2_goesOn 124 = .ok (.iload_n 1, 1) := by decide +kernel
theorem dX2_goesOn_125 : decode cX2_goesOn 125 = .ok (.iload_n 2, 1) := by decide +kernel
theorem dX2_goesOn_126 : decode cX2_goesOn 126 = .ok (.invokevirtual 247, 3) := by decide +kernel
theorem dX2_goesOn_129 : decode cX2_goesOn 129 = .ok (.ifCond .eq 17, 3) := by decide +kernel
theorem dX2_goesOn_132 : decode cX2_goesOn 132 = .ok (.aload_n 0, 1) := by decide +kernel
theorem dX2_goesOn_133 : decode cX2_goesOn 133 = .ok (.getfield 78, 3) := by decide +kernel
theorem dX2_goesOn_136 : decode cX2_goesOn 136 = .ok (.iload_n 1, 1) := by decide +kernel
theorem dX2_goesOn_137 : decode cX2_goesOn 137 = .ok (.iaload, 1) := by decide +kernel
theorem dX2_goesOn_138 : decode cX2_goesOn 138 = .ok (.ineg, 1) := by decide +kernel
theorem dX2_goesOn_139 : decode cX2_goesOn 139 = .ok (.iload_n 3, 1) := by decide +kernel
theorem dX2_goesOn_140 : decode cX2_goesOn 140 = .ok (.imul, 1) := by decide +kernel
theorem dX2_goesOn_141 : decode cX2_goesOn 141 = .ok (.iconst 4, 1) := by decide +kernel
theorem dX2_goesOn_142 : decode cX2_goesOn 142 = .ok (.idiv, 1) := by decide +kernel
theorem dX2_goesOn_143 : decode cX2_goesOn 143 = .ok (.goto 4, 3) := by decide +kernel
theorem dX2_goesOn_146 : decode cX2_goesOn 146 = .ok (.iconst 0, 1) := by decide +kernel
theorem dX2_goesOn_147 : decode cX2_goesOn 147 = .ok (.iastore, 1) := by decide +kernel
theorem dX2_goesOn_148 : decode cX2_goesOn 148 = .ok (.aload_n 0, 1) := by decide +kernel
theorem dX2_goesOn_149 : decode cX2_goesOn 149 = .ok (.aload_n 0, 1) := by decide +kernel
theorem dX2_goesOn_150 : decode cX2_goesOn 150 = .ok (.getfield 96, 3) := by decide +kernel
theorem dX2_goesOn_153 : decode cX2_goesOn 153 = .ok (.iload 4, 2) := by decide +kernel
theorem dX2_goesOn_155 : decode cX2_goesOn 155 = .ok (.iaload, 1) := by decide +kernel
theorem dX2_goesOn_156 : decode cX2_goesOn 156 = .ok (.i2l, 1) := by decide +kernel
theorem dX2_goesOn_157 : decode cX2_goesOn 157 = .ok (.aload_n 0, 1) := by decide +kernel
theorem dX2_goesOn_158 : decode cX2_goesOn 158 = .ok (.getfield 96, 3) := by decide +kernel
theorem dX2_goesOn_161 : decode cX2_goesOn 161 = .ok (.iload 4, 2) := by decide +kernel
theorem dX2_goesOn_163 : decode cX2_goesOn 163 = .ok (.iconst 1, 1) := by decide +kernel
theorem dX2_goesOn_164 : decode cX2_goesOn 164 = .ok (.iadd, 1) := by decide +kernel
theorem dX2_goesOn_165 : decode cX2_goesOn 165 = .ok (.iaload, 1) := by decide +kernel
theorem dX2_goesOn_166 : decode cX2_goesOn 166 = .ok (.i2l, 1) := by decide +kernel
theorem dX2_goesOn_167 : decode cX2_goesOn 167 = .ok (.ladd, 1) := by decide +kernel
theorem dX2_goesOn_168 : decode cX2_goesOn 168 = .ok (.aload_n 0, 1) := by decide +kernel
theorem dX2_goesOn_169 : decode cX2_goesOn 169 = .ok (.getfield 96, 3) := by decide +kernel
theorem dX2_goesOn_172 : decode cX2_goesOn 172 = .ok (.iload 4, 2) := by decide +kernel
theorem dX2_goesOn_174 : decode cX2_goesOn 174 = .ok (.iconst 2, 1) := by decide +kernel
theorem dX2_goesOn_175 : decode cX2_goesOn 175 = .ok (.iadd, 1) := by decide +kernel
theorem dX2_goesOn_176 : decode cX2_goesOn 176 = .ok (.iaload, 1) := by decide +kernel
theorem dX2_goesOn_177 : decode cX2_goesOn 177 = .ok (.i2l, 1) := by decide +kernel
theorem dX2_goesOn_178 : decode cX2_goesOn 178 = .ok (.ladd, 1) := by decide +kernel
theorem dX2_goesOn_179 : decode cX2_goesOn 179 = .ok (.aload_n 0, 1) := by decide +kernel
theorem dX2_goesOn_180 : decode cX2_goesOn 180 = .ok (.getfield 96, 3) := by decide +kernel
theorem dX2_goesOn_183 : decode cX2_goesOn 183 = .ok (.iload 4, 2) := by decide +kernel
theorem dX2_goesOn_185 : decode cX2_goesOn 185 = .ok (.iconst 3, 1) := by decide +kernel
theorem dX2_goesOn_186 : decode cX2_goesOn 186 = .ok (.iadd, 1) := by decide +kernel
theorem dX2_goesOn_187 : decode cX2_goesOn 187 = .ok (.iaload, 1) := by decide +kernel
theorem dX2_goesOn_188 : decode cX2_goesOn 188 = .ok (.i2l, 1) := by decide +kernel
theorem dX2_goesOn_189 : decode cX2_goesOn 189 = .ok (.ladd, 1) := by decide +kernel
theorem dX2_goesOn_190 : decode cX2_goesOn 190 = .ok (.sipush 1000, 3) := by decide +kernel
theorem dX2_goesOn_193 : decode cX2_goesOn 193 = .ok (.invokestatic 250, 3) := by decide +kernel
theorem dX2_goesOn_196 : decode cX2_goesOn 196 = .ok (.putfield 240, 3) := by decide +kernel
theorem dX2_goesOn_199 : decode cX2_goesOn 199 = .ok (.aload_n 0, 1) := by decide +kernel
theorem dX2_goesOn_200 : decode cX2_goesOn 200 = .ok (.getfield 78, 3) := by decide +kernel
theorem dX2_goesOn_203 : decode cX2_goesOn 203 = .ok (.iload_n 1, 1) := by decide +kernel
theorem dX2_goesOn_204 : decode cX2_goesOn 204 = .ok (.aload_n 0, 1) := by decide +kernel
theorem dX2_goesOn_205 : decode cX2_goesOn 205 = .ok (.getfield 78, 3) := by decide +kernel
theorem dX2_goesOn_208 : decode cX2_goesOn 208 = .ok (.iload_n 1, 1) := by decide +kernel
theorem dX2_goesOn_209 : decode cX2_goesOn 209 = .ok (.iaload, 1) := by decide +kernel
theorem dX2_goesOn_210 : decode cX2_goesOn 210 = .ok (.aload_n 0, 1) := by decide +kernel
theorem dX2_goesOn_211 : decode cX2_goesOn 211 = .ok (.getfield 240, 3) := by decide +kernel
theorem dX2_goesOn_214 : decode cX2_goesOn 214 = .ok (.aload_n 0, 1) := by decide +kernel
theorem dX2_goesOn_215 : decode cX2_goesOn 215 = .ok (.getfield 69, 3) := by decide +kernel
theorem dX2_goesOn_218 : decode cX2_goesOn 218 = .ok (.idiv, 1) := by decide +kernel
theorem dX2_goesOn_219 : decode cX2_goesOn 219 = .ok (.iadd, 1) := by decide +kernel
theorem dX2_goesOn_220 : decode cX2_goesOn 220 = .ok (.i2l, 1) := by decide +kernel
theorem dX2_goesOn_221 : decode cX2_goesOn 221 = .ok (.bipush 30, 2) := by decide +kernel
theorem dX2_goesOn_223 : decode cX2_goesOn 223 = .ok (.invokestatic 250, 3) := by decide +kernel
theorem dX2_goesOn_226 : decode cX2_goesOn 226 = .ok (.iastore, 1) := by decide +kernel
theorem dX2_goesOn_227 : decode cX2_goesOn 227 = .ok (.aload_n 0, 1) := by decide +kernel
theorem dX2_goesOn_228 : decode cX2_goesOn 228 = .ok (.getfield 75, 3) := by decide +kernel
theorem dX2_goesOn_231 : decode cX2_goesOn 231 = .ok (.iload_n 1, 1) := by decide +kernel
theorem dX2_goesOn_232 : decode cX2_goesOn 232 = .ok (.iaload, 1) := by decide +kernel
theorem dX2_goesOn_233 : decode cX2_goesOn 233 = .ok (.aload_n 0, 1) := by decide +kernel
theorem dX2_goesOn_234 : decode cX2_goesOn 234 = .ok (.getfield 78, 3) := by decide +kernel
theorem dX2_goesOn_237 : decode cX2_goesOn 237 = .ok (.iload_n 1, 1) := by decide +kernel
theorem dX2_goesOn_238 : decode cX2_goesOn 238 = .ok (.iaload, 1) := by decide +kernel
theorem dX2_goesOn_239 : decode cX2_goesOn 239 = .ok (.iadd, 1) := by decide +kernel
theorem dX2_goesOn_240 : decode cX2_goesOn 240 = .ok (.istore 5, 2) := by decide +kernel
theorem dX2_goesOn_242 : decode cX2_goesOn 242 = .ok (.aload_n 0, 1) := by decide +kernel
theorem dX2_goesOn_243 : decode cX2_goesOn 243 = .ok (.getfield 75, 3) := by decide +kernel
theorem dX2_goesOn_246 : decode cX2_goesOn 246 = .ok (.iload_n 1, 1) := by decide +kernel
theorem dX2_goesOn_247 : decode cX2_goesOn 247 = .ok (.iload 5, 2) := by decide +kernel
theorem dX2_goesOn_249 : decode cX2_goesOn 249 = .ok (.i2l, 1) := by decide +kernel
theorem dX2_goesOn_250 : decode cX2_goesOn 250 = .ok (.bipush 80, 2) := by decide +kernel
theorem dX2_goesOn_252 : decode cX2_goesOn 252 = .ok (.invokestatic 250, 3) := by decide +kernel
theorem dX2_goesOn_255 : decode cX2_goesOn 255 = .ok (.iastore, 1) := by decide +kernel
theorem dX2_goesOn_256 : decode cX2_goesOn 256 = .ok (.aload_n 0, 1) := by decide +kernel
theorem dX2_goesOn_257 : decode cX2_goesOn 257 = .ok (.getfield 87, 3) := by decide +kernel
theorem dX2_goesOn_260 : decode cX2_goesOn 260 = .ok (.iload_n 1, 1) := by decide +kernel
theorem dX2_goesOn_261 : decode cX2_goesOn 261 = .ok (.iload 5, 2) := by decide +kernel
theorem dX2_goesOn_263 : decode cX2_goesOn 263 = .ok (.aload_n 0, 1) := by decide +kernel
theorem dX2_goesOn_264 : decode cX2_goesOn 264 = .ok (.getfield 75, 3) := by decide +kernel
theorem dX2_goesOn_267 : decode cX2_goesOn 267 = .ok (.iload_n 1, 1) := by decide +kernel
theorem dX2_goesOn_268 : decode cX2_goesOn 268 = .ok (.iaload, 1) := by decide +kernel
theorem dX2_goesOn_269 : decode cX2_goesOn 269 = .ok (.if_icmp .eq 7, 3) := by decide +kernel
theorem dX2_goesOn_272 : decode cX2_goesOn 272 = .ok (.iconst 1, 1) := by decide +kernel
theorem dX2_goesOn_273 : decode cX2_goesOn 273 = .ok (.goto 4, 3) := by decide +kernel
theorem dX2_goesOn_276 : decode cX2_goesOn 276 = .ok (.iconst 0, 1) := by decide +kernel
theorem dX2_goesOn_277 : decode cX2_goesOn 277 = .ok (.bastore, 1) := by decide +kernel
theorem dX2_goesOn_278 : decode cX2_goesOn 278 = .ok (.aload_n 0, 1) := by decide +kernel
theorem dX2_goesOn_279 : decode cX2_goesOn 279 = .ok (.getfield 78, 3) := by decide +kernel
theorem dX2_goesOn_282 : decode cX2_goesOn 282 = .ok (.iload_n 1, 1) := by decide +kernel
theorem dX2_goesOn_283 : decode cX2_goesOn 283 = .ok (.iaload, 1) := by decide +kernel
theorem dX2_goesOn_284 : decode cX2_goesOn 284 = .ok (.ifCond .ge 13, 3) := by decide +kernel
theorem dX2_goesOn_287 : decode cX2_goesOn 287 = .ok (.aload_n 0, 1) := by decide +kernel
theorem dX2_goesOn_288 : decode cX2_goesOn 288 = .ok (.getfield 78, 3) := by decide +kernel
theorem dX2_goesOn_291 : decode cX2_goesOn 291 = .ok (.iload_n 1, 1) := by decide +kernel
theorem dX2_goesOn_292 : decode cX2_goesOn 292 = .ok (.iaload, 1) := by decide +kernel
theorem dX2_goesOn_293 : decode cX2_goesOn 293 = .ok (.ineg, 1) := by decide +kernel
theorem dX2_goesOn_294 : decode cX2_goesOn 294 = .ok (.goto 9, 3) := by decide +kernel
theorem dX2_goesOn_297 : decode cX2_goesOn 297 = .ok (.aload_n 0, 1) := by decide +kernel
theorem dX2_goesOn_298 : decode cX2_goesOn 298 = .ok (.getfield 78, 3) := by decide +kernel
theorem dX2_goesOn_301 : decode cX2_goesOn 301 = .ok (.iload_n 1, 1) := by decide +kernel
theorem dX2_goesOn_302 : decode cX2_goesOn 302 = .ok (.iaload, 1) := by decide +kernel
theorem dX2_goesOn_303 : decode cX2_goesOn 303 = .ok (.istore 6, 2) := by decide +kernel
theorem dX2_goesOn_305 : decode cX2_goesOn 305 = .ok (.aload_n 0, 1) := by decide +kernel
theorem dX2_goesOn_306 : decode cX2_goesOn 306 = .ok (.getfield 81, 3) := by decide +kernel
theorem dX2_goesOn_309 : decode cX2_goesOn 309 = .ok (.iload_n 1, 1) := by decide +kernel
theorem dX2_goesOn_310 : decode cX2_goesOn 310 = .ok (.dup2, 1) := by decide +kernel
theorem dX2_goesOn_311 : decode cX2_goesOn 311 = .ok (.iaload, 1) := by decide +kernel
theorem dX2_goesOn_312 : decode cX2_goesOn 312 = .ok (.iload 6, 2) := by decide +kernel
theorem dX2_goesOn_314 : decode cX2_goesOn 314 = .ok (.iconst 4, 1) := by decide +kernel
theorem dX2_goesOn_315 : decode cX2_goesOn 315 = .ok (.if_icmp .le 10, 3) := by decide +kernel
theorem dX2_goesOn_318 : decode cX2_goesOn 318 = .ok (.iload 6, 2) := by decide +kernel
theorem dX2_goesOn_320 : decode cX2_goesOn 320 = .ok (.iconst 4, 1) := by decide +kernel
theorem dX2_goesOn_321 : decode cX2_goesOn 321 = .ok (.isub, 1) := by decide +kernel
theorem dX2_goesOn_322 : decode cX2_goesOn 322 = .ok (.goto 4, 3) := by decide +kernel
theorem dX2_goesOn_325 : decode cX2_goesOn 325 = .ok (.iconst 0, 1) := by decide +kernel
theorem dX2_goesOn_326 : decode cX2_goesOn 326 = .ok (.iadd, 1) := by decide +kernel
theorem dX2_goesOn_327 : decode cX2_goesOn 327 = .ok (.iastore, 1) := by decide +kernel
theorem dX2_goesOn_328 : decode cX2_goesOn 328 = .ok (.aload_n 0, 1) := by decide +kernel
theorem dX2_goesOn_329 : decode cX2_goesOn 329 = .ok (.iconst 0, 1) := by decide +kernel
theorem dX2_goesOn_330 : decode cX2_goesOn 330 = .ok (.iload_n 1, 1) := by decide +kernel
theorem dX2_goesOn_331 : decode cX2_goesOn 331 = .ok (.iload_n 2, 1) := by decide +kernel
theorem dX2_goesOn_332 : decode cX2_goesOn 332 = .ok (.invokevirtual 247, 3) := by decide +kernel
theorem dX2_goesOn_335 : decode cX2_goesOn 335 = .ok (.ifCond .eq 13, 3) := by decide +kernel
theorem dX2_goesOn_338 : decode cX2_goesOn 338 = .ok (.aload_n 0, 1) := by decide +kernel
theorem dX2_goesOn_339 : decode cX2_goesOn 339 = .ok (.getfield 84, 3) := by decide +kernel
theorem dX2_goesOn_342 : decode cX2_goesOn 342 = .ok (.iload_n 1, 1) := by decide +kernel
theorem dX2_goesOn_343 : decode cX2_goesOn 343 = .ok (.dup2, 1) := by decide +kernel
theorem dX2_goesOn_344 : decode cX2_goesOn 344 = .ok (.iaload, 1) := by decide +kernel
theorem dX2_goesOn_345 : decode cX2_goesOn 345 = .ok (.iconst 1, 1) := by decide +kernel
theorem dX2_goesOn_346 : decode cX2_goesOn 346 = .ok (.iadd, 1) := by decide +kernel
theorem dX2_goesOn_347 : decode cX2_goesOn 347 = .ok (.iastore, 1) := by decide +kernel
theorem dX2_goesOn_348 : decode cX2_goesOn 348 = .ok (.aload_n 0, 1) := by decide +kernel
theorem dX2_goesOn_349 : decode cX2_goesOn 349 = .ok (.aload_n 0, 1) := by decide +kernel
theorem dX2_goesOn_350 : decode cX2_goesOn 350 = .ok (.getfield 75, 3) := by decide +kernel
theorem dX2_goesOn_353 : decode cX2_goesOn 353 = .ok (.iload_n 1, 1) := by decide +kernel
theorem dX2_goesOn_354 : decode cX2_goesOn 354 = .ok (.iaload, 1) := by decide +kernel
theorem dX2_goesOn_355 : decode cX2_goesOn 355 = .ok (.invokevirtual 214, 3) := by decide +kernel
theorem dX2_goesOn_358 : decode cX2_goesOn 358 = .ok (.istore 7, 2) := by decide +kernel
theorem dX2_goesOn_360 : decode cX2_goesOn 360 = .ok (.iconst 0, 1) := by decide +kernel
theorem dX2_goesOn_361 : decode cX2_goesOn 361 = .ok (.istore 8, 2) := by decide +kernel
theorem dX2_goesOn_363 : decode cX2_goesOn 363 = .ok (.iload 8, 2) := by decide +kernel
theorem dX2_goesOn_365 : decode cX2_goesOn 365 = .ok (.aload_n 0, 1) := by decide +kernel
theorem dX2_goesOn_366 : decode cX2_goesOn 366 = .ok (.getfield 191, 3) := by decide +kernel
theorem dX2_goesOn_369 : decode cX2_goesOn 369 = .ok (.if_icmp .ge 97, 3) := by decide +kernel
theorem dX2_goesOn_372 : decode cX2_goesOn 372 = .ok (.bipush 6, 2) := by decide +kernel
theorem dX2_goesOn_374 : decode cX2_goesOn 374 = .ok (.iload_n 1, 1) := by decide +kernel
theorem dX2_goesOn_375 : decode cX2_goesOn 375 = .ok (.imul, 1) := by decide +kernel
theorem dX2_goesOn_376 : decode cX2_goesOn 376 = .ok (.iload 8, 2) := by decide +kernel
theorem dX2_goesOn_378 : decode cX2_goesOn 378 = .ok (.iadd, 1) := by decide +kernel
theorem dX2_goesOn_379 : decode cX2_goesOn 379 = .ok (.istore 9, 2) := by decide +kernel
theorem dX2_goesOn_381 : decode cX2_goesOn 381 = .ok (.iload 7, 2) := by decide +kernel
theorem dX2_goesOn_383 : decode cX2_goesOn 383 = .ok (.ldc 205, 2) := by decide +kernel
theorem dX2_goesOn_385 : decode cX2_goesOn 385 = .ok (.if_icmp .eq 37, 3) := by decide +kernel
theorem dX2_goesOn_388 : decode cX2_goesOn 388 = .ok (.bipush 100, 2) := by decide +kernel
theorem dX2_goesOn_390 : decode cX2_goesOn 390 = .ok (.aload_n 0, 1) := by decide +kernel
theorem dX2_goesOn_391 : decode cX2_goesOn 391 = .ok (.getfield 50, 3) := by decide +kernel
theorem dX2_goesOn_394 : decode cX2_goesOn 394 = .ok (.iload 8, 2) := by decide +kernel
theorem dX2_goesOn_396 : decode cX2_goesOn 396 = .ok (.iaload, 1) := by decide +kernel
theorem dX2_goesOn_397 : decode cX2_goesOn 397 = .ok (.imul, 1) := by decide +kernel
theorem dX2_goesOn_398 : decode cX2_goesOn 398 = .ok (.iload 7, 2) := by decide +kernel
theorem dX2_goesOn_400 : decode cX2_goesOn 400 = .ok (.aload_n 0, 1) := by decide +kernel
theorem dX2_goesOn_401 : decode cX2_goesOn 401 = .ok (.getfield 75, 3) := by decide +kernel
theorem dX2_goesOn_404 : decode cX2_goesOn 404 = .ok (.iload_n 1, 1) := by decide +kernel
theorem dX2_goesOn_405 : decode cX2_goesOn 405 = .ok (.iaload, 1) := by decide +kernel
theorem dX2_goesOn_406 : decode cX2_goesOn 406 = .ok (.aload_n 0, 1) := by decide +kernel
theorem dX2_goesOn_407 : decode cX2_goesOn 407 = .ok (.getfield 47, 3) := by decide +kernel
theorem dX2_goesOn_410 : decode cX2_goesOn 410 = .ok (.iload 8, 2) := by decide +kernel
theorem dX2_goesOn_412 : decode cX2_goesOn 412 = .ok (.iaload, 1) := by decide +kernel
theorem dX2_goesOn_413 : decode cX2_goesOn 413 = .ok (.imul, 1) := by decide +kernel
theorem dX2_goesOn_414 : decode cX2_goesOn 414 = .ok (.iadd, 1) := by decide +kernel
theorem dX2_goesOn_415 : decode cX2_goesOn 415 = .ok (.if_icmp .gt 7, 3) := by decide +kernel
theorem dX2_goesOn_418 : decode cX2_goesOn 418 = .ok (.iconst 1, 1) := by decide +kernel
theorem dX2_goesOn_419 : decode cX2_goesOn 419 = .ok (.goto 4, 3) := by decide +kernel
theorem dX2_goesOn_422 : decode cX2_goesOn 422 = .ok (.iconst 0, 1) := by decide +kernel
theorem dX2_goesOn_423 : decode cX2_goesOn 423 = .ok (.istore 10, 2) := by decide +kernel
theorem dX2_goesOn_425 : decode cX2_goesOn 425 = .ok (.iload 10, 2) := by decide +kernel
theorem dX2_goesOn_427 : decode cX2_goesOn 427 = .ok (.ifCond .eq 24, 3) := by decide +kernel
theorem dX2_goesOn_430 : decode cX2_goesOn 430 = .ok (.aload_n 0, 1) := by decide +kernel
theorem dX2_goesOn_431 : decode cX2_goesOn 431 = .ok (.getfield 90, 3) := by decide +kernel
theorem dX2_goesOn_434 : decode cX2_goesOn 434 = .ok (.iload 9, 2) := by decide +kernel
theorem dX2_goesOn_436 : decode cX2_goesOn 436 = .ok (.baload, 1) := by decide +kernel
theorem dX2_goesOn_437 : decode cX2_goesOn 437 = .ok (.ifCond .ne 14, 3) := by decide +kernel
theorem dX2_goesOn_440 : decode cX2_goesOn 440 = .ok (.aload_n 0, 1) := by decide +kernel
theorem dX2_goesOn_441 : decode cX2_goesOn 441 = .ok (.getfield 93, 3) := by decide +kernel
theorem dX2_goesOn_444 : decode cX2_goesOn 444 = .ok (.iload 9, 2) := by decide +kernel
theorem dX2_goesOn_446 : decode cX2_goesOn 446 = .ok (.dup2, 1) := by decide +kernel
theorem dX2_goesOn_447 : decode cX2_goesOn 447 = .ok (.iaload, 1) := by decide +kernel
theorem dX2_goesOn_448 : decode cX2_goesOn 448 = .ok (.iconst 1, 1) := by decide +kernel
theorem dX2_goesOn_449 : decode cX2_goesOn 449 = .ok (.iadd, 1) := by decide +kernel
theorem dX2_goesOn_450 : decode cX2_goesOn 450 = .ok (.iastore, 1) := by decide +kernel
theorem dX2_goesOn_451 : decode cX2_goesOn 451 = .ok (.aload_n 0, 1) := by decide +kernel
theorem dX2_goesOn_452 : decode cX2_goesOn 452 = .ok (.getfield 90, 3) := by decide +kernel
theorem dX2_goesOn_455 : decode cX2_goesOn 455 = .ok (.iload 9, 2) := by decide +kernel
theorem dX2_goesOn_457 : decode cX2_goesOn 457 = .ok (.iload 10, 2) := by decide +kernel
theorem dX2_goesOn_459 : decode cX2_goesOn 459 = .ok (.bastore, 1) := by decide +kernel
theorem dX2_goesOn_460 : decode cX2_goesOn 460 = .ok (.iinc 8 1, 3) := by decide +kernel
theorem dX2_goesOn_463 : decode cX2_goesOn 463 = .ok (.goto (-100), 3) := by decide +kernel
theorem dX2_goesOn_466 : decode cX2_goesOn 466 = .ok (.iconst 1, 1) := by decide +kernel
theorem dX2_goesOn_467 : decode cX2_goesOn 467 = .ok (.ireturn, 1) := by decide +kernel
set_option maxHeartbeats 4000000 in
theorem met_goesOn (l : Launch) (D : va_G) (E : Nat → ClassId) (A : Nat → Prop) (h : Nat) (ad : Nat → Nat) (I : Nat → Int) (F : Nat → Int → Int) (lot t fi : Int) (J : Nat → Int) (G : Nat → Int → Int) (hlot : 0 ≤ lot ∧ lot ≤ 1) (ht : 0 ≤ t ∧ t ≤ 1000) (hfi : 0 ≤ fi ∧ fi ≤ 9) (hL : isLot F lot J G) (gsh : gShip 3000 J G) (gh0 : gHull I F) (gl0 : gLoad I F) (gm0 : gMark I F) (gs0 : gSea I F) (gt0 : gSet I) (gr0 : gRule F) : MM l yX2_goesOn cX2_goesOn 11 (some .boolean) (mrm 3) D E A h ad [.int (iI lot), .int (iI t), .int (iI fi)] I F (MQi D E A h ad (fun z I1 F1 => tkJ I F t fi J G 6 = z ∧ (∃ a b, va_up (va_up (va_up I 70 (tkJ I F t fi J G 5)) 66 a) 67 b = I1) ∧ ∃ g g1, setLot F lot (tkJ I F t fi J G) (tkG I F t fi J G) g g1 = F1)) := by
  refine m_start (by decide) rfl (Nat.le_of_ble_eq_true rfl) ?_
  intro p e R s m args below meth c ls Q hR hQ hC hml hr hlk hM hS hl
  have hx := hC.1
  have hb := hC.2.1
  have hown := hC.2.2.1
  have hts := hC.2.2.2.1
  have hl : lv_has ls 11 [(0, .ref h), (1, .int (iI lot)), (2, .int (iI t)), (3, .int (iI fi))] := hl
  obtain ⟨e28, e29, e30, e31, e32, e27, e33, e34, e35⟩ := id hL
  obtain ⟨b0, b1, b2, b3, b4, b5, b6⟩ := gsh
  obtain ⟨i1, a2, a3⟩ := id gh0
  obtain ⟨i4, a5, a6, a7, a8, a9, i10, a11, a12, a13, a14, a14h⟩ := id gl0
  obtain ⟨i15, a16, a17⟩ := id gm0
  obtain ⟨i22, i23, i24, i25⟩ := gt0
  have hhv := heavyS_bd (lost := F 9) i4 i10 a5 a14
  refine lv_aload_n hx hb dX2_goesOn_0 rfl (lv_at hl 0 rfl) ?_
  refine r_iconst hx hb dX2_goesOn_1 ?_
  refine mp_70 hC hM hS dX2_goesOn_2 (fun H locs hM hS => ?_)
  refine lv_aload_n hx hb dX2_goesOn_5 rfl (lv_at hl 0 rfl) ?_
  refine mg_32 hC hM dX2_goesOn_6 ?_
  refine lv_iload_n hx hb dX2_goesOn_9 rfl (lv_at hl 1 rfl) ?_
  refine ml_32 (v := J 4) hC hM (by omega) e32 dX2_goesOn_10 ?_
  refine r_if_eq (tgt := 16) hx hb dX2_goesOn_11 (by decide) (by omega) (fun c1 => ?_) (fun c1 => ?_)
  · have c1 : ¬ (J 4 ≠ 0) := fun q => q c1
    refine lv_aload_n hx hb dX2_goesOn_16 rfl (lv_at hl 0 rfl) ?_
    refine lv_iload_n hx hb dX2_goesOn_17 rfl (lv_at hl 1 rfl) ?_
    refine m_callv (kX2_slides (rest := []) (as := [.int (iI lot)]) hC hml (met_slides l D E A h ad (va_up I 70 0) F lot (J 0) (G 0) hlot e28 e27 b0 b5 gl0) ⟨rfl, rfl⟩ hR (by decide) hM rfl hl.1 rfl (Nat.le_of_ble_eq_true rfl) dX2_goesOn_18) hS (fun I2 F3 H locs hp4 hM hS => ?_)
    obtain ⟨rfl, rfl⟩ := hp4
    refine lv_aload_n hx hb dX2_goesOn_21 rfl (lv_at hl 0 rfl) ?_
    refine lv_aload_n hx hb dX2_goesOn_22 rfl (lv_at hl 0 rfl) ?_
    refine mg_28 hC hM dX2_goesOn_23 ?_
    refine lv_iload_n hx hb dX2_goesOn_26 rfl (lv_at hl 1 rfl) ?_
    refine ml_28 (v := J 0) hC hM (by omega) e28 dX2_goesOn_27 ?_
    have hlo : lvF (I 1) (F 2) (F 3) (heavyS (I 4) (F 9) (F 5) (I 10) (F 14)) (J 0) = -2147483648 ∨ (-2000 ≤ lvF (I 1) (F 2) (F 3) (heavyS (I 4) (F 9) (F 5) (I 10) (F 14)) (J 0) ∧ lvF (I 1) (F 2) (F 3) (heavyS (I 4) (F 9) (F 5) (I 10) (F 14)) (J 0) ≤ 4000) := levelS_or _ _
    have e27s : fedT (F 27) (12 * lot) (tPl I F J G) 12 = fedT (F 27) (12 * lot) (slidS (F 9) (F 8) (J 0) (G 0)) (I 4) := fedT_fed (by omega) e27
    have e27t : ∀ w, 0 ≤ w → w < 12 → fedT (F 27) (12 * lot) (slidS (F 9) (F 8) (J 0) (G 0)) (I 4) (12 * lot + w) = tPl I F J G w := fun w h0 h1 => by rw [← e27s]; exact fedT_of h0 h1
    have hpl := tPl_bd (F := F) (J := J) i4 b5
    refine m_calli (kX2_levelAt (rest := []) (as := [.int (iI (J 0))]) hC hml (met_levelAt l D E A h ad (va_up I 70 0) (va_up F 27 (fedT (F 27) (12 * lot) (slidS (F 9) (F 8) (J 0) (G 0)) (I 4))) (J 0) (by omega) gh0 gl0) ⟨rfl, rfl⟩ hR (by decide) hM rfl hl.1 rfl (Nat.le_of_ble_eq_true rfl) dX2_goesOn_28) hS (fun lv8 I9 F10 H locs hp11 hM hS => ?_)
    obtain ⟨rfl, ⟨ga5, gb6, rfl, hab7⟩, rfl⟩ := hp11
    refine W.eq (g2 := F0 m 31 ls [.int (iI (lvF (I 1) (F 2) (F 3) (heavyS (I 4) (F 9) (F 5) (I 10) (F 14)) (J 0)))]) rfl ?_
    refine r_ldc hx hb (-2147483648) hown (hts _ q1289) (by decide) dX2_goesOn_31 ?_
    refine r_icmp_ne (tgt := 45) hx hb dX2_goesOn_33 (by decide) (by omega) (by decide) (fun c2 => ?_) (fun c2 => ?_)
    · have c2 : tLv I F (J 0) ≠ -2147483648 := c2
      have eJ : tkJ I F t fi J G = tkJ2 I F t fi J G := by funext k; unfold tkJ; rw [if_neg c1, if_neg c2]
      have eG : tkG I F t fi J G = tkG2 I F t fi J G := by funext k; unfold tkG; rw [if_neg c1, if_neg c2]
      obtain ⟨ea, eb⟩ := hab7 c2
      subst ea
      subst eb
      have hp1 := pushS_bd (J 0) (lvF (I 1) (F 2) (F 3) (heavyS (I 4) (F 9) (F 5) (I 10) (F 14)) (J 0)) i1 a2 a3
      have hu1 := upS_bd (sl := J 0) (lvF (I 1) (F 2) (F 3) (heavyS (I 4) (F 9) (F 5) (I 10) (F 14)) (J 0)) b0 i1 a2 a3
      have hin := levelS_in (hv := heavyS (I 4) (F 9) (F 5) (I 10) (F 14)) (f := pushS (I 1) (F 2) (F 3) (J 0)) c2
      have hpp : 0 < pushS (I 1) (F 2) (F 3) (J 0) (lvF (I 1) (F 2) (F 3) (heavyS (I 4) (F 9) (F 5) (I 10) (F 14)) (J 0)) ∧ pushS (I 1) (F 2) (F 3) (J 0) (lvF (I 1) (F 2) (F 3) (heavyS (I 4) (F 9) (F 5) (I 10) (F 14)) (J 0)) ≤ 21600 := ⟨by have q1 := hin.2.1; have q2 := hin.2.2; unfold lvF; omega, hp1.2⟩
      refine r_iconst hx hb dX2_goesOn_45 ?_
      refine lv_iload_n hx hb dX2_goesOn_46 rfl (lv_at hl 1 rfl) ?_
      refine r_imul hx hb dX2_goesOn_47 ?_
      refine lv_istore (lv' := [(4, .int (iI (4 * lot))), (0, .ref h), (1, .int (iI lot)), (2, .int (iI t)), (3, .int (iI fi))]) hx hb dX2_goesOn_48 hl (by decide) rfl (fun ls hl => ?_)
      refine lv_aload_n hx hb dX2_goesOn_50 rfl (lv_at hl 1 rfl) ?_
      refine mg_35 hC hM dX2_goesOn_51 ?_
      refine lv_iload hx hb dX2_goesOn_54 (lv_at hl 0 rfl) ?_
      refine lv_aload_n hx hb dX2_goesOn_56 rfl (lv_at hl 1 rfl) ?_
      refine lv_iload_n hx hb dX2_goesOn_57 rfl (lv_at hl 2 rfl) ?_
      refine lv_aload_n hx hb dX2_goesOn_58 rfl (lv_at hl 1 rfl) ?_
      refine mg_28 hC hM dX2_goesOn_59 ?_
      refine lv_iload_n hx hb dX2_goesOn_62 rfl (lv_at hl 2 rfl) ?_
      refine ml_28 (v := J 0) hC hM (by omega) e28 dX2_goesOn_63 ?_
      refine m_calll (kX2_armAt (rest := [.int (iI (4 * lot)), .ref (ad 35)]) (as := [.int (iI lot), .int (iI (J 0))]) hC hml (met_armAt l D E A h ad (va_up (va_up (va_up I 70 0) 66 (pushS (I 1) (F 2) (F 3) (J 0) (lvF (I 1) (F 2) (F 3) (heavyS (I 4) (F 9) (F 5) (I 10) (F 14)) (J 0)))) 67 (upS (I 1) (F 2) (F 3) (J 0) (lvF (I 1) (F 2) (F 3) (heavyS (I 4) (F 9) (F 5) (I 10) (F 14)) (J 0)))) (va_up F 27 (fedT (F 27) (12 * lot) (slidS (F 9) (F 8) (J 0) (G 0)) (I 4))) lot (J 0) (tPl I F J G) (fun w h0 h1 => e27t w h0 (by have h1 : w < I 4 := h1; omega)) (by omega) (by omega) gl0 hpl hpp hu1) ⟨rfl, rfl⟩ hR (by decide) hM rfl hl.1 rfl (Nat.le_of_ble_eq_true rfl) dX2_goesOn_64) hS (fun z12 I13 F14 H locs hp15 hM hS => ?_)
      obtain ⟨rfl, rfl, rfl⟩ := hp15
      refine W.eq (g2 := F0 m 67 ls [.long (iL (armS (upS (I 1) (F 2) (F 3) (J 0) (lvF (I 1) (F 2) (F 3) (heavyS (I 4) (F 9) (F 5) (I 10) (F 14)) (J 0))) (heavyS (I 4) (F 9) (F 5) (I 10) (F 14)) (pushS (I 1) (F 2) (F 3) (J 0) (lvF (I 1) (F 2) (F 3) (heavyS (I 4) (F 9) (F 5) (I 10) (F 14)) (J 0))) (downS (I 4) (F 9) (F 5) (tPl I F J G) (F 7) (I 10) (F 14) (F 13) (F 11) (F 12) (J 0)))), .int (iI (4 * lot)), .ref (ad 35)]) rfl ?_
      obtain ⟨ar, h_ar⟩ : ∃ x : Int, x = armS (upS (I 1) (F 2) (F 3) (J 0) (lvF (I 1) (F 2) (F 3) (heavyS (I 4) (F 9) (F 5) (I 10) (F 14)) (J 0))) (heavyS (I 4) (F 9) (F 5) (I 10) (F 14)) (pushS (I 1) (F 2) (F 3) (J 0) (lvF (I 1) (F 2) (F 3) (heavyS (I 4) (F 9) (F 5) (I 10) (F 14)) (J 0))) (downS (I 4) (F 9) (F 5) (tPl I F J G) (F 7) (I 10) (F 14) (F 13) (F 11) (F 12) (J 0)) := ⟨_, rfl⟩
      refine W.eq (g2 := F0 m 67 ls [.long (iL ar), .int (iI (4 * lot)), .ref (ad 35)]) (by subst h_ar; rfl) ?_
      have e_ar : ar = tAr I F (tPl I F J G) (J 0) := h_ar
      have b_ar : -144024000 ≤ ar ∧ ar ≤ 144024000 := by rw [e_ar]; exact armS_bd hpp.1 hhv (up_push _ b0 i1 a2 a3) (downS_bd b0 i4 i10 a5 hpl a7 a14 a11 a12)
      clear h_ar
      have b_q := tdiv_bd (a := -ar) (b := I 22) (M := 144024000) (by omega) (by omega)
      refine r_lneg hx hb dX2_goesOn_67 ?_
      refine lv_aload_n hx hb dX2_goesOn_68 rfl (lv_at hl 1 rfl) ?_
      refine mg_22 (v := I 22) hC hM rfl dX2_goesOn_69 ?_
      refine r_i2l hx hb dX2_goesOn_72 (by omega) ?_
      refine r_ldiv hx hb dX2_goesOn_73 (by omega) (by omega) (by omega) ?_
      refine r_l2i hx hb dX2_goesOn_74 ?_
      obtain ⟨p0, h_p0⟩ : ∃ x : Int, x = (-ar).tdiv (I 22) := ⟨_, rfl⟩
      refine W.eq (g2 := F0 m 75 ls [.int (iI p0), .int (iI (4 * lot)), .ref (ad 35)]) (by subst h_p0; rfl) ?_
      have b_p0 : -144024000 ≤ p0 ∧ p0 ≤ 144024000 := by rw [h_p0]; exact b_q
      have e_p0 : p0 = tPa I F t fi J G 0 := by rw [h_p0, e_ar]; rfl
      refine ms_35 (v := p0) hC hM hS (by omega) dX2_goesOn_75 (fun H locs hM hS => ?_)
      refine lv_aload_n hx hb dX2_goesOn_76 rfl (lv_at hl 1 rfl) ?_
      refine mg_35 hC hM dX2_goesOn_77 ?_
      refine lv_iload hx hb dX2_goesOn_80 (lv_at hl 0 rfl) ?_
      refine r_iconst hx hb dX2_goesOn_82 ?_
      refine r_iadd hx hb dX2_goesOn_83 ?_
      refine lv_aload_n hx hb dX2_goesOn_84 rfl (lv_at hl 1 rfl) ?_
      refine lv_iload_n hx hb dX2_goesOn_85 rfl (lv_at hl 3 rfl) ?_
      refine m_calli (kX2_seaIn (rest := [.int (iI ((4 * lot) + 1)), .ref (ad 35)]) (as := [.int (iI t)]) hC hml (met_seaIn l D E A h ad (va_up (va_up (va_up I 70 0) 66 (pushS (I 1) (F 2) (F 3) (J 0) (lvF (I 1) (F 2) (F 3) (heavyS (I 4) (F 9) (F 5) (I 10) (F 14)) (J 0)))) 67 (upS (I 1) (F 2) (F 3) (J 0) (lvF (I 1) (F 2) (F 3) (heavyS (I 4) (F 9) (F 5) (I 10) (F 14)) (J 0)))) (upF (va_up F 27 (fedT (F 27) (12 * lot) (slidS (F 9) (F 8) (J 0) (G 0)) (I 4))) 35 (4 * lot) p0) t (by omega) gs0) ⟨rfl, rfl⟩ hR (by decide) hM rfl hl.1 rfl (Nat.le_of_ble_eq_true rfl) dX2_goesOn_86) hS (fun z16 I17 F18 H locs hp19 hM hS => ?_)
      obtain ⟨rfl, rfl, rfl⟩ := hp19
      refine W.eq (g2 := F0 m 89 ls [.int (iI (seaS (I 18) (F 19) (F 20) (F 21) t)), .int (iI ((4 * lot) + 1)), .ref (ad 35)]) rfl ?_
      obtain ⟨p1, h_p1⟩ : ∃ x : Int, x = seaS (I 18) (F 19) (F 20) (F 21) t := ⟨_, rfl⟩
      refine W.eq (g2 := F0 m 89 ls [.int (iI p1), .int (iI ((4 * lot) + 1)), .ref (ad 35)]) (by subst h_p1; rfl) ?_
      have b_p1 : -480000 ≤ p1 ∧ p1 ≤ 480000 := by rw [h_p1]; exact seaS_bd t gs0.1 gs0.2.2.1
      have e_p1 : p1 = tPa I F t fi J G 1 := h_p1
      have m2 := mul_bd (A := 30) (B := 50) (a := -J 1) (b := I 23) (by omega) (by omega)
      have q2 := tdiv_bd (a := -J 1 * I 23) (b := 10) (M := 1500) (by decide) (by omega)
      refine ms_35 (v := p1) hC hM hS (by omega) dX2_goesOn_89 (fun H locs hM hS => ?_)
      refine lv_aload_n hx hb dX2_goesOn_90 rfl (lv_at hl 1 rfl) ?_
      refine mg_35 hC hM dX2_goesOn_91 ?_
      refine lv_iload hx hb dX2_goesOn_94 (lv_at hl 0 rfl) ?_
      refine r_iconst hx hb dX2_goesOn_96 ?_
      refine r_iadd hx hb dX2_goesOn_97 ?_
      refine lv_aload_n hx hb dX2_goesOn_98 rfl (lv_at hl 1 rfl) ?_
      refine mg_29 hC hM dX2_goesOn_99 ?_
      refine lv_iload_n hx hb dX2_goesOn_102 rfl (lv_at hl 2 rfl) ?_
      refine ml_29 (v := J 1) hC hM (by omega) e29 dX2_goesOn_103 ?_
      refine r_ineg hx hb dX2_goesOn_104 ?_
      refine lv_aload_n hx hb dX2_goesOn_105 rfl (lv_at hl 1 rfl) ?_
      refine mg_23 (v := I 23) hC hM rfl dX2_goesOn_106 ?_
      refine r_imul hx hb dX2_goesOn_109 ?_
      refine r_bipush hx hb dX2_goesOn_110 (by decide) ?_
      refine r_idiv hx hb dX2_goesOn_112 (by omega) (by decide) (by decide) ?_
      obtain ⟨p2, h_p2⟩ : ∃ x : Int, x = ((-(J 1)) * (I 23)).tdiv 10 := ⟨_, rfl⟩
      refine W.eq (g2 := F0 m 113 ls [.int (iI p2), .int (iI ((4 * lot) + 2)), .ref (ad 35)]) (by subst h_p2; rfl) ?_
      have b_p2 : -1500 ≤ p2 ∧ p2 ≤ 1500 := by rw [h_p2]; exact q2
      have e_p2 : p2 = tPa I F t fi J G 2 := by rw [h_p2, Int.neg_mul]; rfl
      refine ms_35 (v := p2) hC hM hS (by omega) dX2_goesOn_113 (fun H locs hM hS => ?_)
      refine lv_aload_n hx hb dX2_goesOn_114 rfl (lv_at hl 1 rfl) ?_
      refine mg_35 hC hM dX2_goesOn_115 ?_
      refine lv_iload hx hb dX2_goesOn_118 (lv_at hl 0 rfl) ?_
      refine r_iconst hx hb dX2_goesOn_120 ?_
      refine r_iadd hx hb dX2_goesOn_121 ?_
      refine lv_aload_n hx hb dX2_goesOn_122 rfl (lv_at hl 1 rfl) ?_
      refine r_iconst hx hb dX2_goesOn_123 ?_
      refine lv_iload_n hx hb dX2_goesOn_124 rfl (lv_at hl 2 rfl) ?_
      refine lv_iload_n hx hb dX2_goesOn_125 rfl (lv_at hl 3 rfl) ?_
      refine m_calli (kX2_isSo (rest := [.int (iI ((4 * lot) + 3)), .ref (ad 35)]) (as := [.int (iI 1), .int (iI lot), .int (iI t)]) hC hml (met_isSo l D E A h ad (va_up (va_up (va_up I 70 0) 66 (pushS (I 1) (F 2) (F 3) (J 0) (lvF (I 1) (F 2) (F 3) (heavyS (I 4) (F 9) (F 5) (I 10) (F 14)) (J 0)))) 67 (upS (I 1) (F 2) (F 3) (J 0) (lvF (I 1) (F 2) (F 3) (heavyS (I 4) (F 9) (F 5) (I 10) (F 14)) (J 0)))) (upF (upF (upF (va_up F 27 (fedT (F 27) (12 * lot) (slidS (F 9) (F 8) (J 0) (G 0)) (I 4))) 35 (4 * lot) p0) 35 ((4 * lot) + 1) p1) 35 ((4 * lot) + 2) p2) 1 lot t (J 0) (J 1) (J 2) (G 1) (tPl I F J G) (by omega) hlot (by omega) e28 e29 e30 (fun w h0 h1 => e33 w h0 h1) e27t b0 b1 (by omega) hpl b6 gs0 gl0 gm0 gr0) ⟨rfl, rfl⟩ hR (by decide) hM rfl hl.1 rfl (Nat.le_of_ble_eq_true rfl) dX2_goesOn_126) hS (fun z22 I23 F24 H locs hp25 hM hS => ?_)
      obtain ⟨rfl, rfl, ⟨g20, g21, rfl⟩⟩ := hp25
      refine W.eq (g2 := F0 m 129 ls [.int (iI (soZ F 1 (nmS I F (J 0) (J 1) t (J 2) (G 1) (tPl I F J G)))), .int (iI ((4 * lot) + 3)), .ref (ad 35)]) rfl ?_
      obtain ⟨so1, h_so1⟩ : ∃ x : Int, x = soZ F 1 (nmS I F (J 0) (J 1) t (J 2) (G 1) (tPl I F J G)) := ⟨_, rfl⟩
      refine W.eq (g2 := F0 m 129 ls [.int (iI so1), .int (iI ((4 * lot) + 3)), .ref (ad 35)]) (by subst h_so1; rfl) ?_
      have b_so1 : so1 = 0 ∨ so1 = 1 := by rw [h_so1]; exact soZ_01 _ _ _
      have m3 := mul_bd (A := 30) (B := 9) (a := -J 1) (b := fi) (by omega) (by omega)
      have q3 := tdiv_bd (a := -J 1 * fi) (b := 4) (M := 270) (by decide) (by omega)
      have jn26 : W p l e R s m args below meth c H locs 0 0 Q (F0 m 147 ls [.int (iI (if so1 = 0 then 0 else (-J 1 * fi).tdiv 4)), .int (iI ((4 * lot) + 3)), .ref (ad 35)]) := by
        obtain ⟨p3, h_p3⟩ : ∃ x : Int, x = if so1 = 0 then 0 else (-J 1 * fi).tdiv 4 := ⟨_, rfl⟩
        refine W.eq (g2 := F0 m 147 ls [.int (iI p3), .int (iI ((4 * lot) + 3)), .ref (ad 35)]) (by subst h_p3; rfl) ?_
        have b_p3 : -270 ≤ p3 ∧ p3 ≤ 270 := by rw [h_p3]; split <;> omega
        have e_p3 : p3 = tPa I F t fi J G 3 := by rw [h_p3, Int.neg_mul, h_so1]; rfl
        refine ms_35 (v := p3) hC hM hS (by omega) dX2_goesOn_147 (fun H locs hM hS => ?_)
        refine lv_aload_n hx hb dX2_goesOn_148 rfl (lv_at hl 1 rfl) ?_
        refine lv_aload_n hx hb dX2_goesOn_149 rfl (lv_at hl 1 rfl) ?_
        refine mg_35 hC hM dX2_goesOn_150 ?_
        refine lv_iload hx hb dX2_goesOn_153 (lv_at hl 0 rfl) ?_
        refine ml_35 (v := p0) hC hM (by omega) (by show (updZ (updZ (updZ (updZ (F 35) (4 * lot) p0) (4 * lot + 1) p1) (4 * lot + 2) p2) (4 * lot + 3) p3) (4 * lot) = p0; rw [updZ_n (by omega), updZ_n (by omega), updZ_n (by omega), updZ_s]) dX2_goesOn_155 ?_
        refine r_i2l hx hb dX2_goesOn_156 (by omega) ?_
        refine lv_aload_n hx hb dX2_goesOn_157 rfl (lv_at hl 1 rfl) ?_
        refine mg_35 hC hM dX2_goesOn_158 ?_
        refine lv_iload hx hb dX2_goesOn_161 (lv_at hl 0 rfl) ?_
        refine r_iconst hx hb dX2_goesOn_163 ?_
        refine r_iadd hx hb dX2_goesOn_164 ?_
        refine ml_35 (v := p1) hC hM (by omega) (by show (updZ (updZ (updZ (updZ (F 35) (4 * lot) p0) (4 * lot + 1) p1) (4 * lot + 2) p2) (4 * lot + 3) p3) (4 * lot + 1) = p1; rw [updZ_n (by omega), updZ_n (by omega), updZ_s]) dX2_goesOn_165 ?_
        refine r_i2l hx hb dX2_goesOn_166 (by omega) ?_
        refine r_ladd hx hb dX2_goesOn_167 ?_
        refine lv_aload_n hx hb dX2_goesOn_168 rfl (lv_at hl 1 rfl) ?_
        refine mg_35 hC hM dX2_goesOn_169 ?_
        refine lv_iload hx hb dX2_goesOn_172 (lv_at hl 0 rfl) ?_
        refine r_iconst hx hb dX2_goesOn_174 ?_
        refine r_iadd hx hb dX2_goesOn_175 ?_
        refine ml_35 (v := p2) hC hM (by omega) (by show (updZ (updZ (updZ (updZ (F 35) (4 * lot) p0) (4 * lot + 1) p1) (4 * lot + 2) p2) (4 * lot + 3) p3) (4 * lot + 2) = p2; rw [updZ_n (by omega), updZ_s]) dX2_goesOn_176 ?_
        refine r_i2l hx hb dX2_goesOn_177 (by omega) ?_
        refine r_ladd hx hb dX2_goesOn_178 ?_
        refine lv_aload_n hx hb dX2_goesOn_179 rfl (lv_at hl 1 rfl) ?_
        refine mg_35 hC hM dX2_goesOn_180 ?_
        refine lv_iload hx hb dX2_goesOn_183 (lv_at hl 0 rfl) ?_
        refine r_iconst hx hb dX2_goesOn_185 ?_
        refine r_iadd hx hb dX2_goesOn_186 ?_
        refine ml_35 (v := p3) hC hM (by omega) (by show (updZ (updZ (updZ (updZ (F 35) (4 * lot) p0) (4 * lot + 1) p1) (4 * lot + 2) p2) (4 * lot + 3) p3) (4 * lot + 3) = p3; rw [updZ_s]) dX2_goesOn_187 ?_
        refine r_i2l hx hb dX2_goesOn_188 (by omega) ?_
        refine r_ladd hx hb dX2_goesOn_189 ?_
        refine r_sipush hx hb dX2_goesOn_190 (by decide) ?_
        refine s_calli (kX2_X2_bounded (rest := [.ref h]) (as := [.long (iL (((p0 + p1) + p2) + p3)), .int (iI 1000)]) hx hb hml hown hts (met_bounded l (((p0 + p1) + p2) + p3) 1000 (by omega) (by decide)) ⟨rfl, rfl⟩ hR (by decide) rfl hl.1 rfl (Nat.le_of_ble_eq_true rfl) dX2_goesOn_193) ?_
        obtain ⟨fo, h_fo⟩ : ∃ x : Int, x = clampZ (((p0 + p1) + p2) + p3) 1000 := ⟨_, rfl⟩
        refine W.eq (g2 := F0 m 196 ls [.int (iI fo), .ref h]) (by subst h_fo; rfl) ?_
        have b_fo : -1000 ≤ fo ∧ fo ≤ 1000 := by rw [h_fo]; exact clampZ_bd (by decide)
        have e_fo : fo = tFo I F t fi J G := by rw [h_fo, e_p0, e_p1, e_p2, e_p3]; rfl
        have q4 := tdiv_bd (a := fo) (b := I 24) (M := 1000) (by omega) (by omega)
        refine mp_70 hC hM hS dX2_goesOn_196 (fun H locs hM hS => ?_)
        refine lv_aload_n hx hb dX2_goesOn_199 rfl (lv_at hl 1 rfl) ?_
        refine mg_29 hC hM dX2_goesOn_200 ?_
        refine lv_iload_n hx hb dX2_goesOn_203 rfl (lv_at hl 2 rfl) ?_
        refine lv_aload_n hx hb dX2_goesOn_204 rfl (lv_at hl 1 rfl) ?_
        refine mg_29 hC hM dX2_goesOn_205 ?_
        refine lv_iload_n hx hb dX2_goesOn_208 rfl (lv_at hl 2 rfl) ?_
        refine ml_29 (v := J 1) hC hM (by omega) e29 dX2_goesOn_209 ?_
        refine lv_aload_n hx hb dX2_goesOn_210 rfl (lv_at hl 1 rfl) ?_
        refine mg_70 (v := fo) hC hM rfl dX2_goesOn_211 ?_
        refine lv_aload_n hx hb dX2_goesOn_214 rfl (lv_at hl 1 rfl) ?_
        refine mg_24 (v := I 24) hC hM rfl dX2_goesOn_215 ?_
        refine r_idiv hx hb dX2_goesOn_218 (by omega) (by omega) (by omega) ?_
        refine r_iadd hx hb dX2_goesOn_219 ?_
        refine r_i2l hx hb dX2_goesOn_220 (by omega) ?_
        refine r_bipush hx hb dX2_goesOn_221 (by decide) ?_
        refine s_calli (kX2_X2_bounded (rest := [.int (iI lot), .ref (ad 29)]) (as := [.long (iL ((J 1) + (fo.tdiv (I 24)))), .int (iI 30)]) hx hb hml hown hts (met_bounded l ((J 1) + (fo.tdiv (I 24))) 30 (by omega) (by decide)) ⟨rfl, rfl⟩ hR (by decide) rfl hl.1 rfl (Nat.le_of_ble_eq_true rfl) dX2_goesOn_223) ?_
        obtain ⟨sp2, h_sp2⟩ : ∃ x : Int, x = clampZ ((J 1) + (fo.tdiv (I 24))) 30 := ⟨_, rfl⟩
        refine W.eq (g2 := F0 m 226 ls [.int (iI sp2), .int (iI lot), .ref (ad 29)]) (by subst h_sp2; rfl) ?_
        have b_sp2 : -30 ≤ sp2 ∧ sp2 ≤ 30 := by rw [h_sp2]; exact clampZ_bd (by decide)
        have e_sp2 : sp2 = tSp I F t fi J G := by rw [h_sp2, e_fo]; rfl
        refine ms_29 (v := sp2) hC hM hS (by omega) dX2_goesOn_226 (fun H locs hM hS => ?_)
        refine lv_aload_n hx hb dX2_goesOn_227 rfl (lv_at hl 1 rfl) ?_
        refine mg_28 hC hM dX2_goesOn_228 ?_
        refine lv_iload_n hx hb dX2_goesOn_231 rfl (lv_at hl 2 rfl) ?_
        refine ml_28 (v := J 0) hC hM (by omega) e28 dX2_goesOn_232 ?_
        refine lv_aload_n hx hb dX2_goesOn_233 rfl (lv_at hl 1 rfl) ?_
        refine mg_29 hC hM dX2_goesOn_234 ?_
        refine lv_iload_n hx hb dX2_goesOn_237 rfl (lv_at hl 2 rfl) ?_
        refine ml_29 (v := sp2) hC hM (by omega) (by simp [upF, va_up, updZ]) dX2_goesOn_238 ?_
        refine r_iadd hx hb dX2_goesOn_239 ?_
        refine lv_istore (lv' := [(5, .int (iI ((J 0) + sp2))), (4, .int (iI (4 * lot))), (0, .ref h), (1, .int (iI lot)), (2, .int (iI t)), (3, .int (iI fi))]) hx hb dX2_goesOn_240 hl (by decide) rfl (fun ls hl => ?_)
        refine lv_aload_n hx hb dX2_goesOn_242 rfl (lv_at hl 2 rfl) ?_
        refine mg_28 hC hM dX2_goesOn_243 ?_
        refine lv_iload_n hx hb dX2_goesOn_246 rfl (lv_at hl 3 rfl) ?_
        refine lv_iload hx hb dX2_goesOn_247 (lv_at hl 0 rfl) ?_
        refine r_i2l hx hb dX2_goesOn_249 (by omega) ?_
        refine r_bipush hx hb dX2_goesOn_250 (by decide) ?_
        refine s_calli (kX2_X2_bounded (rest := [.int (iI lot), .ref (ad 28)]) (as := [.long (iL ((J 0) + sp2)), .int (iI 80)]) hx hb hml hown hts (met_bounded l ((J 0) + sp2) 80 (by omega) (by decide)) ⟨rfl, rfl⟩ hR (by decide) rfl hl.1 rfl (Nat.le_of_ble_eq_true rfl) dX2_goesOn_252) ?_
        obtain ⟨sl2, h_sl2⟩ : ∃ x : Int, x = clampZ ((J 0) + sp2) 80 := ⟨_, rfl⟩
        refine W.eq (g2 := F0 m 255 ls [.int (iI sl2), .int (iI lot), .ref (ad 28)]) (by subst h_sl2; rfl) ?_
        have b_sl2 : -80 ≤ sl2 ∧ sl2 ≤ 80 := by rw [h_sl2]; exact clampZ_bd (by decide)
        have e_sl2 : sl2 = tSl I F t fi J G := by rw [h_sl2, e_sp2]; rfl
        refine ms_28 (v := sl2) hC hM hS (by omega) dX2_goesOn_255 (fun H locs hM hS => ?_)
        refine lv_aload_n hx hb dX2_goesOn_256 rfl (lv_at hl 2 rfl) ?_
        refine mg_32 hC hM dX2_goesOn_257 ?_
        refine lv_iload_n hx hb dX2_goesOn_260 rfl (lv_at hl 3 rfl) ?_
        refine lv_iload hx hb dX2_goesOn_261 (lv_at hl 0 rfl) ?_
        refine lv_aload_n hx hb dX2_goesOn_263 rfl (lv_at hl 2 rfl) ?_
        refine mg_28 hC hM dX2_goesOn_264 ?_
        refine lv_iload_n hx hb dX2_goesOn_267 rfl (lv_at hl 3 rfl) ?_
        refine ml_28 (v := sl2) hC hM (by omega) (by simp [upF, va_up, updZ]) dX2_goesOn_268 ?_
        have jn27 : W p l e R s m args below meth c H locs 0 0 Q (F0 m 277 ls [.int (iI (if (J 0 + sp2) = sl2 then 0 else 1)), .int (iI lot), .ref (ad 32)]) := by
          refine ms_32 (v := if (J 0 + sp2) = sl2 then 0 else 1) hC hM hS (by omega) (by split <;> simp) dX2_goesOn_277 (fun H locs hM hS => ?_)
          refine lv_aload_n hx hb dX2_goesOn_278 rfl (lv_at hl 2 rfl) ?_
          refine mg_29 hC hM dX2_goesOn_279 ?_
          refine lv_iload_n hx hb dX2_goesOn_282 rfl (lv_at hl 3 rfl) ?_
          refine ml_29 (v := sp2) hC hM (by omega) (by simp [upF, va_up, updZ]) dX2_goesOn_283 ?_
          have jn28 : W p l e R s m args below meth c H locs 0 0 Q (F0 m 303 ls [.int (iI (absI sp2))]) := by
            have b_fa : 0 ≤ absI sp2 ∧ absI sp2 ≤ 30 := by unfold absI; split <;> omega
            refine lv_istore (lv' := [(6, .int (iI (absI sp2))), (5, .int (iI ((J 0) + sp2))), (4, .int (iI (4 * lot))), (0, .ref h), (1, .int (iI lot)), (2, .int (iI t)), (3, .int (iI fi))]) hx hb dX2_goesOn_303 hl (by decide) rfl (fun ls hl => ?_)
            refine lv_aload_n hx hb dX2_goesOn_305 rfl (lv_at hl 3 rfl) ?_
            refine mg_30 hC hM dX2_goesOn_306 ?_
            refine lv_iload_n hx hb dX2_goesOn_309 rfl (lv_at hl 4 rfl) ?_
            refine lv_dup2_11 hx hb dX2_goesOn_310 rfl rfl ?_
            refine ml_30 (v := J 2) hC hM (by omega) e30 dX2_goesOn_311 ?_
            refine lv_iload hx hb dX2_goesOn_312 (lv_at hl 0 rfl) ?_
            refine r_iconst hx hb dX2_goesOn_314 ?_
            have jn29 : W p l e R s m args below meth c H locs 0 0 Q (F0 m 326 ls [.int (iI (if 4 < absI sp2 then absI sp2 - 4 else 0)), .int (iI (J 2)), .int (iI lot), .ref (ad 30)]) := by
              refine r_iadd hx hb dX2_goesOn_326 ?_
              obtain ⟨si2, h_si2⟩ : ∃ x : Int, x = (J 2) + (if 4 < absI sp2 then absI sp2 - 4 else 0) := ⟨_, rfl⟩
              refine W.eq (g2 := F0 m 327 ls [.int (iI si2), .int (iI lot), .ref (ad 30)]) (by subst h_si2; rfl) ?_
              have b_si2 : 0 ≤ si2 ∧ si2 ≤ 100000 := by rw [h_si2]; split <;> omega
              have e_si2 : si2 = tSi I F t fi J G := by rw [h_si2, e_sp2]; rfl
              refine ms_30 (v := si2) hC hM hS (by omega) dX2_goesOn_327 (fun H locs hM hS => ?_)
              refine lv_aload_n hx hb dX2_goesOn_328 rfl (lv_at hl 3 rfl) ?_
              refine r_iconst hx hb dX2_goesOn_329 ?_
              refine lv_iload_n hx hb dX2_goesOn_330 rfl (lv_at hl 4 rfl) ?_
              refine lv_iload_n hx hb dX2_goesOn_331 rfl (lv_at hl 5 rfl) ?_
              refine m_calli (kX2_isSo (rest := []) (as := [.int (iI 0), .int (iI lot), .int (iI t)]) hC hml (met_isSo l D E A h ad (va_up (va_up (va_up (va_up I 70 0) 66 (pushS (I 1) (F 2) (F 3) (J 0) (lvF (I 1) (F 2) (F 3) (heavyS (I 4) (F 9) (F 5) (I 10) (F 14)) (J 0)))) 67 (upS (I 1) (F 2) (F 3) (J 0) (lvF (I 1) (F 2) (F 3) (heavyS (I 4) (F 9) (F 5) (I 10) (F 14)) (J 0)))) 70 fo) (upF (upF (upF (upF (upF (va_up (va_up (upF (upF (upF (va_up F 27 (fedT (F 27) (12 * lot) (slidS (F 9) (F 8) (J 0) (G 0)) (I 4))) 35 (4 * lot) p0) 35 ((4 * lot) + 1) p1) 35 ((4 * lot) + 2) p2) 71 g20) 72 g21) 35 ((4 * lot) + 3) p3) 29 lot sp2) 28 lot sl2) 32 lot (if (J 0 + sp2) = sl2 then 0 else 1)) 30 lot si2) 0 lot t sl2 sp2 si2 (G 1) (tPl I F J G) (by omega) hlot (by omega) (by show updZ (F 28) lot sl2 lot = sl2; exact updZ_s) (by show updZ (F 29) lot sp2 lot = sp2; exact updZ_s) (by show updZ (F 30) lot si2 lot = si2; exact updZ_s) (fun w h0 h1 => e33 w h0 h1) e27t b_sl2 b_sp2 b_si2 hpl b6 gs0 gl0 gm0 gr0) ⟨rfl, rfl⟩ hR (by decide) hM rfl hl.1 rfl (Nat.le_of_ble_eq_true rfl) dX2_goesOn_332) hS (fun z32 I33 F34 H locs hp35 hM hS => ?_)
              obtain ⟨rfl, rfl, ⟨g30, g31, rfl⟩⟩ := hp35
              refine W.eq (g2 := F0 m 335 ls [.int (iI (soZ F 0 (nmS I F sl2 sp2 t si2 (G 1) (tPl I F J G))))]) rfl ?_
              obtain ⟨so0, h_so0⟩ : ∃ x : Int, x = soZ F 0 (nmS I F sl2 sp2 t si2 (G 1) (tPl I F J G)) := ⟨_, rfl⟩
              refine W.eq (g2 := F0 m 335 ls [.int (iI so0)]) (by subst h_so0; rfl) ?_
              have b_so0 : so0 = 0 ∨ so0 = 1 := by rw [h_so0]; exact soZ_01 _ _ _
              have e_wo : tWo I F t fi J G = J 3 + if so0 = 0 then 0 else 1 := by rw [h_so0, e_sl2, e_sp2, e_si2]; rfl
              have k348 : ∀ (H : Heap) (locs : List Loc), MW D E A h ad (va_up (va_up (va_up (va_up I 70 0) 66 (pushS (I 1) (F 2) (F 3) (J 0) (lvF (I 1) (F 2) (F 3) (heavyS (I 4) (F 9) (F 5) (I 10) (F 14)) (J 0)))) 67 (upS (I 1) (F 2) (F 3) (J 0) (lvF (I 1) (F 2) (F 3) (heavyS (I 4) (F 9) (F 5) (I 10) (F 14)) (J 0)))) 70 fo) (va_up (va_up (setLot F lot (tkJ2 I F t fi J G) (tkG2 I F t fi J G) g30 g31) 33 (F 33)) 34 (F 34)) H → va_S A s.heap H locs → W p l e R s m args below meth c H locs 0 0 Q (F0 m 348 ls []) := by
                intro H locs hM hS
                refine lv_aload_n hx hb dX2_goesOn_348 rfl (lv_at hl 3 rfl) ?_
                refine lv_aload_n hx hb dX2_goesOn_349 rfl (lv_at hl 3 rfl) ?_
                refine mg_28 hC hM dX2_goesOn_350 ?_
                refine lv_iload_n hx hb dX2_goesOn_353 rfl (lv_at hl 4 rfl) ?_
                refine ml_28 (v := sl2) hC hM (by omega) (by show updZ (F 28) lot (tkJ2 I F t fi J G 0) lot = sl2; rw [updZ_s]; exact e_sl2.symm) dX2_goesOn_354 ?_
                refine m_calli (kX2_levelAt (rest := []) (as := [.int (iI sl2)]) hC hml (met_levelAt l D E A h ad (va_up (va_up (va_up (va_up I 70 0) 66 (pushS (I 1) (F 2) (F 3) (J 0) (lvF (I 1) (F 2) (F 3) (heavyS (I 4) (F 9) (F 5) (I 10) (F 14)) (J 0)))) 67 (upS (I 1) (F 2) (F 3) (J 0) (lvF (I 1) (F 2) (F 3) (heavyS (I 4) (F 9) (F 5) (I 10) (F 14)) (J 0)))) 70 fo) (va_up (va_up (setLot F lot (tkJ2 I F t fi J G) (tkG2 I F t fi J G) g30 g31) 33 (F 33)) 34 (F 34)) sl2 (by omega) gh0 gl0) ⟨rfl, rfl⟩ hR (by decide) hM rfl hl.1 rfl (Nat.le_of_ble_eq_true rfl) dX2_goesOn_355) hS (fun lv39 I40 F41 H locs hp42 hM hS => ?_)
                obtain ⟨rfl, ⟨ga36, gb37, rfl, hab38⟩, rfl⟩ := hp42
                refine W.eq (g2 := F0 m 358 ls [.int (iI (lvF (I 1) (F 2) (F 3) (heavyS (I 4) (F 9) (F 5) (I 10) (F 14)) sl2))]) rfl ?_
                obtain ⟨lv2, h_lv2⟩ : ∃ x : Int, x = lvF (I 1) (F 2) (F 3) (heavyS (I 4) (F 9) (F 5) (I 10) (F 14)) sl2 := ⟨_, rfl⟩
                refine W.eq (g2 := F0 m 358 ls [.int (iI lv2)]) (by subst h_lv2; rfl) ?_
                have e_lv2 : lv2 = tLv I F sl2 := h_lv2
                have b_lv2 : lv2 = -2147483648 ∨ (-2000 ≤ lv2 ∧ lv2 ≤ 4000) := by rw [h_lv2]; exact levelS_or _ _
                refine lv_istore (lv' := [(7, .int (iI lv2)), (6, .int (iI (absI sp2))), (5, .int (iI ((J 0) + sp2))), (4, .int (iI (4 * lot))), (0, .ref h), (1, .int (iI lot)), (2, .int (iI t)), (3, .int (iI fi))]) hx hb dX2_goesOn_358 hl (by decide) rfl (fun ls hl => ?_)
                refine r_iconst hx hb dX2_goesOn_360 ?_
                refine lv_istore (lv' := [(8, .int (iI 0)), (7, .int (iI lv2)), (6, .int (iI (absI sp2))), (5, .int (iI ((J 0) + sp2))), (4, .int (iI (4 * lot))), (0, .ref h), (1, .int (iI lot)), (2, .int (iI t)), (3, .int (iI fi))]) hx hb dX2_goesOn_361 hl (by decide) rfl (fun ls hl => ?_)
                have loop363_43 : ∀ (n : Nat) (k : Int) (F1 : Nat → Int → Int), I 15 - k < (n : Int) → 0 ≤ k → k ≤ I 15 → F1 = va_up (va_up (setLot F lot (tkJ2 I F t fi J G) (tkG2 I F t fi J G) g30 g31) 33 (fedT (F 33) (6 * lot) (isWetS I F sl2) k)) 34 (fedT (F 34) (6 * lot) (fun m => if isWetS I F sl2 m = 1 ∧ G 1 m = 0 then G 2 m + 1 else G 2 m) k) → ∀ (H : Heap) (locs : List Loc) (ls : Array Slot), MW D E A h ad (va_up (va_up (va_up (va_up (va_up (va_up I 70 0) 66 (pushS (I 1) (F 2) (F 3) (J 0) (lvF (I 1) (F 2) (F 3) (heavyS (I 4) (F 9) (F 5) (I 10) (F 14)) (J 0)))) 67 (upS (I 1) (F 2) (F 3) (J 0) (lvF (I 1) (F 2) (F 3) (heavyS (I 4) (F 9) (F 5) (I 10) (F 14)) (J 0)))) 70 fo) 66 ga36) 67 gb37) F1 H → va_S A s.heap H locs → lv_has ls 11 [(8, .int (iI k)), (7, .int (iI lv2)), (6, .int (iI (absI sp2))), (5, .int (iI ((J 0) + sp2))), (4, .int (iI (4 * lot))), (0, .ref h), (1, .int (iI lot)), (2, .int (iI t)), (3, .int (iI fi))] → W p l e R s m args below meth c H locs 0 0 Q (F0 m 363 ls []) := by
                  intro n
                  induction n with
                  | zero => intro k F1 hn45 hk0 hk1 eF; exfalso; omega
                  | succ n ih44 =>
                    intro k F1 hn45 hk0 hk1 eF H locs ls hM hS hl
                    subst eF
                    refine lv_iload hx hb dX2_goesOn_363 (lv_at hl 0 rfl) ?_
                    refine lv_aload_n hx hb dX2_goesOn_365 rfl (lv_at hl 5 rfl) ?_
                    refine mg_15 (v := I 15) hC hM rfl dX2_goesOn_366 ?_
                    refine r_icmp_ge (tgt := 466) hx hb dX2_goesOn_369 (by decide) (by omega) (by omega) (fun c46 => ?_) (fun c46 => ?_)
                    · have ek : k = I 15 := by omega
                      refine r_iconst hx hb dX2_goesOn_466 ?_
                      exact m_zret hC hQ hr hlk hM hS (by decide) dX2_goesOn_467 (⟨by rw [eJ]; rfl, ⟨_, _, by rw [eJ, show tkJ2 I F t fi J G 5 = fo from e_fo.symm]; exact (upI3 I _ _ _ _ _ _).symm⟩, ⟨_, _, by rw [eJ, eG, ek, show fedT (F 33) (6 * lot) (isWetS I F sl2) (I 15) = (setLot F lot (tkJ2 I F t fi J G) (tkG2 I F t fi J G) g30 g31) 33 from by show _ = fedT (F 33) (6 * lot) (fedT (G 1) 0 (isWetS I F (tSl I F t fi J G)) (I 15)) 6; rw [fedT_fed (by omega) e33, e_sl2], show fedT (F 34) (6 * lot) (fun m => if isWetS I F sl2 m = 1 ∧ G 1 m = 0 then G 2 m + 1 else G 2 m) (I 15) = (setLot F lot (tkJ2 I F t fi J G) (tkG2 I F t fi J G) g30 g31) 34 from by show _ = fedT (F 34) (6 * lot) (fedT (G 2) 0 (fun m => if isWetS I F (tSl I F t fi J G) m = 1 ∧ G 1 m = 0 then G 2 m + 1 else G 2 m) (I 15)) 6; rw [fedT_fed (by omega) e34, e_sl2], up_self]; exact (up_self (setLot F lot (tkJ2 I F t fi J G) (tkG2 I F t fi J G) g30 g31) 34).symm⟩⟩)
                    · have b16 := a16 k (by omega) (by omega)
                      have b17 := a17 k (by omega) (by omega)
                      have b6k := b6 k (by omega) (by omega)
                      have hmp := mul_bd (A := 80) (B := 19) (a := sl2) (b := F 16 k) (by omega) (by omega)
                      refine r_bipush hx hb dX2_goesOn_372 (by decide) ?_
                      refine lv_iload_n hx hb dX2_goesOn_374 rfl (lv_at hl 6 rfl) ?_
                      refine r_imul hx hb dX2_goesOn_375 ?_
                      refine lv_iload hx hb dX2_goesOn_376 (lv_at hl 0 rfl) ?_
                      refine r_iadd hx hb dX2_goesOn_378 ?_
                      refine lv_istore (lv' := [(9, .int (iI ((6 * lot) + k))), (8, .int (iI k)), (7, .int (iI lv2)), (6, .int (iI (absI sp2))), (5, .int (iI ((J 0) + sp2))), (4, .int (iI (4 * lot))), (0, .ref h), (1, .int (iI lot)), (2, .int (iI t)), (3, .int (iI fi))]) hx hb dX2_goesOn_379 hl (by decide) rfl (fun ls hl => ?_)
                      refine lv_iload hx hb dX2_goesOn_381 (lv_at hl 2 rfl) ?_
                      refine r_ldc hx hb (-2147483648) hown (hts _ q1289) (by decide) dX2_goesOn_383 ?_
                      have jn47 : W p l e R s m args below meth c H locs 0 0 Q (F0 m 423 ls [.int (iI (isWetS I F sl2 k))]) := by
                        obtain ⟨iw, h_iw⟩ : ∃ x : Int, x = isWetS I F sl2 k := ⟨_, rfl⟩
                        refine W.eq (g2 := F0 m 423 ls [.int (iI iw)]) (by subst h_iw; rfl) ?_
                        have b_iw : iw = 0 ∨ iw = 1 := by rw [h_iw]; unfold isWetS; split <;> simp
                        refine lv_istore (lv' := [(10, .int (iI iw)), (9, .int (iI ((6 * lot) + k))), (8, .int (iI k)), (7, .int (iI lv2)), (6, .int (iI (absI sp2))), (5, .int (iI ((J 0) + sp2))), (4, .int (iI (4 * lot))), (0, .ref h), (1, .int (iI lot)), (2, .int (iI t)), (3, .int (iI fi))]) hx hb dX2_goesOn_423 hl (by decide) rfl (fun ls hl => ?_)
                        refine lv_iload hx hb dX2_goesOn_425 (lv_at hl 0 rfl) ?_
                        refine r_if_eq (tgt := 451) hx hb dX2_goesOn_427 (by decide) (by omega) (fun c48 => ?_) (fun c48 => ?_)
                        · refine lv_aload_n hx hb dX2_goesOn_451 rfl (lv_at hl 7 rfl) ?_
                          refine mg_33 hC hM dX2_goesOn_452 ?_
                          refine lv_iload hx hb dX2_goesOn_455 (lv_at hl 1 rfl) ?_
                          refine lv_iload hx hb dX2_goesOn_457 (lv_at hl 0 rfl) ?_
                          refine ms_33 (v := iw) hC hM hS (by omega) (by omega) dX2_goesOn_459 (fun H locs hM hS => ?_)
                          refine lv_iinc (v := iI (k + 1)) (lv' := [(8, .int (iI (k + 1))), (10, .int (iI iw)), (9, .int (iI ((6 * lot) + k))), (7, .int (iI lv2)), (6, .int (iI (absI sp2))), (5, .int (iI ((J 0) + sp2))), (4, .int (iI (4 * lot))), (0, .ref h), (1, .int (iI lot)), (2, .int (iI t)), (3, .int (iI fi))]) hx hb dX2_goesOn_460 hl (k := 2) rfl (iI_add _ _) (by decide) rfl (fun ls hl => ?_)
                          refine lv_goto (tgt := 363) hx hb dX2_goesOn_463 (by decide) ?_
                          exact ih44 (k + 1) (upF (va_up (va_up (setLot F lot (tkJ2 I F t fi J G) (tkG2 I F t fi J G) g30 g31) 33 (fedT (F 33) (6 * lot) (isWetS I F sl2) k)) 34 (fedT (F 34) (6 * lot) (fun m => if isWetS I F sl2 m = 1 ∧ G 1 m = 0 then G 2 m + 1 else G 2 m) k)) 33 ((6 * lot) + k) iw) (by omega) (by omega) (by omega) (by rw [upF_in _ (by decide), ← fedT_s _ _ _ hk0, h_iw, ← fedT_skip (f := F 34) hk0 (by rw [e34 k (by omega) (by omega), if_neg (by rw [← h_iw]; omega)])]) _ _ _ hM hS (lv_sub hl [0, 3, 4, 5, 6, 7, 8, 9, 10] rfl)
                        · refine lv_aload_n hx hb dX2_goesOn_430 rfl (lv_at hl 7 rfl) ?_
                          refine mg_33 hC hM dX2_goesOn_431 ?_
                          refine lv_iload hx hb dX2_goesOn_434 (lv_at hl 1 rfl) ?_
                          refine ml_33 (v := G 1 k) hC hM (by omega) (by show fedT (F 33) (6 * lot) (isWetS I F sl2) k (6 * lot + k) = G 1 k; rw [fedT_n (by omega)]; exact e33 k (by omega) (by omega)) dX2_goesOn_436 ?_
                          refine r_if_ne (tgt := 451) hx hb dX2_goesOn_437 (by decide) (by omega) (fun c49 => ?_) (fun c49 => ?_)
                          · refine lv_aload_n hx hb dX2_goesOn_451 rfl (lv_at hl 7 rfl) ?_
                            refine mg_33 hC hM dX2_goesOn_452 ?_
                            refine lv_iload hx hb dX2_goesOn_455 (lv_at hl 1 rfl) ?_
                            refine lv_iload hx hb dX2_goesOn_457 (lv_at hl 0 rfl) ?_
                            refine ms_33 (v := iw) hC hM hS (by omega) (by omega) dX2_goesOn_459 (fun H locs hM hS => ?_)
                            refine lv_iinc (v := iI (k + 1)) (lv' := [(8, .int (iI (k + 1))), (10, .int (iI iw)), (9, .int (iI ((6 * lot) + k))), (7, .int (iI lv2)), (6, .int (iI (absI sp2))), (5, .int (iI ((J 0) + sp2))), (4, .int (iI (4 * lot))), (0, .ref h), (1, .int (iI lot)), (2, .int (iI t)), (3, .int (iI fi))]) hx hb dX2_goesOn_460 hl (k := 2) rfl (iI_add _ _) (by decide) rfl (fun ls hl => ?_)
                            refine lv_goto (tgt := 363) hx hb dX2_goesOn_463 (by decide) ?_
                            exact ih44 (k + 1) (upF (va_up (va_up (setLot F lot (tkJ2 I F t fi J G) (tkG2 I F t fi J G) g30 g31) 33 (fedT (F 33) (6 * lot) (isWetS I F sl2) k)) 34 (fedT (F 34) (6 * lot) (fun m => if isWetS I F sl2 m = 1 ∧ G 1 m = 0 then G 2 m + 1 else G 2 m) k)) 33 ((6 * lot) + k) iw) (by omega) (by omega) (by omega) (by rw [upF_in _ (by decide), ← fedT_s _ _ _ hk0, h_iw, ← fedT_skip (f := F 34) hk0 (by rw [e34 k (by omega) (by omega), if_neg (by rw [← h_iw]; omega)])]) _ _ _ hM hS (lv_sub hl [0, 3, 4, 5, 6, 7, 8, 9, 10] rfl)
                          · refine lv_aload_n hx hb dX2_goesOn_440 rfl (lv_at hl 7 rfl) ?_
                            refine mg_34 hC hM dX2_goesOn_441 ?_
                            refine lv_iload hx hb dX2_goesOn_444 (lv_at hl 1 rfl) ?_
                            refine lv_dup2_11 hx hb dX2_goesOn_446 rfl rfl ?_
                            refine ml_34 (v := G 2 k) hC hM (by omega) (by show fedT (F 34) (6 * lot) (fun m => if isWetS I F sl2 m = 1 ∧ G 1 m = 0 then G 2 m + 1 else G 2 m) k (6 * lot + k) = G 2 k; rw [fedT_n (by omega)]; exact e34 k (by omega) (by omega)) dX2_goesOn_447 ?_
                            refine r_iconst hx hb dX2_goesOn_448 ?_
                            refine r_iadd hx hb dX2_goesOn_449 ?_
                            refine ms_34 (v := (G 2 k) + 1) hC hM hS (by omega) dX2_goesOn_450 (fun H locs hM hS => ?_)
                            rw [upF_up] at hM
                            refine lv_aload_n hx hb dX2_goesOn_451 rfl (lv_at hl 7 rfl) ?_
                            refine mg_33 hC hM dX2_goesOn_452 ?_
                            refine lv_iload hx hb dX2_goesOn_455 (lv_at hl 1 rfl) ?_
                            refine lv_iload hx hb dX2_goesOn_457 (lv_at hl 0 rfl) ?_
                            refine ms_33 (v := iw) hC hM hS (by omega) (by omega) dX2_goesOn_459 (fun H locs hM hS => ?_)
                            refine lv_iinc (v := iI (k + 1)) (lv' := [(8, .int (iI (k + 1))), (10, .int (iI iw)), (9, .int (iI ((6 * lot) + k))), (7, .int (iI lv2)), (6, .int (iI (absI sp2))), (5, .int (iI ((J 0) + sp2))), (4, .int (iI (4 * lot))), (0, .ref h), (1, .int (iI lot)), (2, .int (iI t)), (3, .int (iI fi))]) hx hb dX2_goesOn_460 hl (k := 2) rfl (iI_add _ _) (by decide) rfl (fun ls hl => ?_)
                            refine lv_goto (tgt := 363) hx hb dX2_goesOn_463 (by decide) ?_
                            exact ih44 (k + 1) (upF (va_up (va_up (setLot F lot (tkJ2 I F t fi J G) (tkG2 I F t fi J G) g30 g31) 33 (fedT (F 33) (6 * lot) (isWetS I F sl2) k)) 34 (updZ (fedT (F 34) (6 * lot) (fun m => if isWetS I F sl2 m = 1 ∧ G 1 m = 0 then G 2 m + 1 else G 2 m) k) ((6 * lot) + k) ((G 2 k) + 1))) 33 ((6 * lot) + k) iw) (by omega) (by omega) (by omega) (by rw [upF_in _ (by decide), ← fedT_s _ _ _ hk0, ← fedT_s (F 34) _ _ hk0, if_pos (by rw [← h_iw]; omega), h_iw]) _ _ _ hM hS (lv_sub hl [0, 3, 4, 5, 6, 7, 8, 9, 10] rfl)
                      refine r_icmp_eq (tgt := 422) hx hb dX2_goesOn_385 (by decide) (by omega) (by decide) (fun c50 => ?_) (fun c50 => ?_)
                      · refine r_iconst hx hb dX2_goesOn_422 ?_
                        rw [show isWetS I F sl2 k = 0 from if_neg (by rw [← e_lv2]; omega)] at jn47
                        exact jn47
                      · refine r_bipush hx hb dX2_goesOn_388 (by decide) ?_
                        refine lv_aload_n hx hb dX2_goesOn_390 rfl (lv_at hl 6 rfl) ?_
                        refine mg_17 hC hM dX2_goesOn_391 ?_
                        refine lv_iload hx hb dX2_goesOn_394 (lv_at hl 1 rfl) ?_
                        refine ml_17 (v := F 17 k) hC hM (by omega) rfl dX2_goesOn_396 ?_
                        refine r_imul hx hb dX2_goesOn_397 ?_
                        refine lv_iload hx hb dX2_goesOn_398 (lv_at hl 2 rfl) ?_
                        refine lv_aload_n hx hb dX2_goesOn_400 rfl (lv_at hl 6 rfl) ?_
                        refine mg_28 hC hM dX2_goesOn_401 ?_
                        refine lv_iload_n hx hb dX2_goesOn_404 rfl (lv_at hl 7 rfl) ?_
                        refine ml_28 (v := sl2) hC hM (by omega) (by show updZ (F 28) lot (tkJ2 I F t fi J G 0) lot = sl2; rw [updZ_s]; exact e_sl2.symm) dX2_goesOn_405 ?_
                        refine lv_aload_n hx hb dX2_goesOn_406 rfl (lv_at hl 6 rfl) ?_
                        refine mg_16 hC hM dX2_goesOn_407 ?_
                        refine lv_iload hx hb dX2_goesOn_410 (lv_at hl 1 rfl) ?_
                        refine ml_16 (v := F 16 k) hC hM (by omega) rfl dX2_goesOn_412 ?_
                        refine r_imul hx hb dX2_goesOn_413 ?_
                        refine r_iadd hx hb dX2_goesOn_414 ?_
                        refine r_icmp_gt (tgt := 422) hx hb dX2_goesOn_415 (by decide) (by omega) (by omega) (fun c51 => ?_) (fun c51 => ?_)
                        · refine r_iconst hx hb dX2_goesOn_422 ?_
                          rw [show isWetS I F sl2 k = 0 from if_neg (by rw [← e_lv2]; omega)] at jn47
                          exact jn47
                        · refine r_iconst hx hb dX2_goesOn_418 ?_
                          refine lv_goto (tgt := 423) hx hb dX2_goesOn_419 (by decide) ?_
                          rw [show isWetS I F sl2 k = 1 from if_pos (by rw [← e_lv2]; omega)] at jn47
                          exact jn47
                exact loop363_43 ((I 15 - 0 : Int).toNat + 1) 0 (va_up (va_up (setLot F lot (tkJ2 I F t fi J G) (tkG2 I F t fi J G) g30 g31) 33 (F 33)) 34 (F 34)) (by omega) (by omega) (by omega) (by rw [fedT_0, fedT_0]) _ _ _ hM hS (lv_sub hl [0, 1, 2, 3, 4, 5, 6, 7, 8] rfl)
              refine r_if_eq (tgt := 348) hx hb dX2_goesOn_335 (by decide) (by omega) (fun cw => ?_) (fun cw => ?_)
              · exact k348 _ _ (by rw [show va_up (va_up (setLot F lot (tkJ2 I F t fi J G) (tkG2 I F t fi J G) g30 g31) 33 (F 33)) 34 (F 34) = va_up (va_up (upF (upF (upF (upF (upF (va_up (va_up (upF (upF (upF (va_up F 27 (fedT (F 27) (12 * lot) (slidS (F 9) (F 8) (J 0) (G 0)) (I 4))) 35 (4 * lot) p0) 35 ((4 * lot) + 1) p1) 35 ((4 * lot) + 2) p2) 71 g20) 72 g21) 35 ((4 * lot) + 3) p3) 29 lot sp2) 28 lot sl2) 32 lot (if (J 0 + sp2) = sl2 then 0 else 1)) 30 lot si2) 71 g30) 72 g31 from setLot_ext8 e27s (by rw [show tkJ2 I F t fi J G 0 = sl2 from e_sl2.symm]; rfl) (by rw [show tkJ2 I F t fi J G 1 = sp2 from e_sp2.symm]; rfl) (by rw [show tkJ2 I F t fi J G 2 = si2 from e_si2.symm]; rfl) (by rw [show tkJ2 I F t fi J G 3 = J 3 from by show tWo I F t fi J G = J 3; rw [e_wo, if_pos cw, Int.add_zero]]; exact updZ_id e31) (by rw [show tkJ2 I F t fi J G 4 = if J 0 + sp2 = sl2 then 0 else 1 from by rw [e_sp2, e_sl2]; rfl]; rfl) rfl rfl (by rw [← fedT_4]; show updZ (updZ (updZ (updZ (F 35) (4 * lot) (tPa I F t fi J G 0)) (4 * lot + 1) (tPa I F t fi J G 1)) (4 * lot + 2) (tPa I F t fi J G 2)) (4 * lot + 3) (tPa I F t fi J G 3) = _; rw [← e_p0, ← e_p1, ← e_p2, ← e_p3]; rfl) rfl rfl (fun k n27 n28 n29 n30 n31 n32 n33 n34 n35 n71 n72 => by simp [upF, va_up, n27, n28, n29, n30, n31, n32, n33, n34, n35, n71, n72])]; exact hM) hS
              · refine lv_aload_n hx hb dX2_goesOn_338 rfl (lv_at hl 3 rfl) ?_
                refine mg_31 hC hM dX2_goesOn_339 ?_
                refine lv_iload_n hx hb dX2_goesOn_342 rfl (lv_at hl 4 rfl) ?_
                refine lv_dup2_11 hx hb dX2_goesOn_343 rfl rfl ?_
                refine ml_31 (v := J 3) hC hM (by omega) e31 dX2_goesOn_344 ?_
                refine r_iconst hx hb dX2_goesOn_345 ?_
                refine r_iadd hx hb dX2_goesOn_346 ?_
                refine ms_31 (v := (J 3) + 1) hC hM hS (by omega) dX2_goesOn_347 (fun H locs hM hS => ?_)
                exact k348 _ _ (by rw [show va_up (va_up (setLot F lot (tkJ2 I F t fi J G) (tkG2 I F t fi J G) g30 g31) 33 (F 33)) 34 (F 34) = upF (va_up (va_up (upF (upF (upF (upF (upF (va_up (va_up (upF (upF (upF (va_up F 27 (fedT (F 27) (12 * lot) (slidS (F 9) (F 8) (J 0) (G 0)) (I 4))) 35 (4 * lot) p0) 35 ((4 * lot) + 1) p1) 35 ((4 * lot) + 2) p2) 71 g20) 72 g21) 35 ((4 * lot) + 3) p3) 29 lot sp2) 28 lot sl2) 32 lot (if (J 0 + sp2) = sl2 then 0 else 1)) 30 lot si2) 71 g30) 72 g31) 31 lot ((J 3) + 1) from setLot_ext8 e27s (by rw [show tkJ2 I F t fi J G 0 = sl2 from e_sl2.symm]; rfl) (by rw [show tkJ2 I F t fi J G 1 = sp2 from e_sp2.symm]; rfl) (by rw [show tkJ2 I F t fi J G 2 = si2 from e_si2.symm]; rfl) (by rw [show tkJ2 I F t fi J G 3 = J 3 + 1 from by show tWo I F t fi J G = J 3 + 1; rw [e_wo, if_neg cw]]; rfl) (by rw [show tkJ2 I F t fi J G 4 = if J 0 + sp2 = sl2 then 0 else 1 from by rw [e_sp2, e_sl2]; rfl]; rfl) rfl rfl (by rw [← fedT_4]; show updZ (updZ (updZ (updZ (F 35) (4 * lot) (tPa I F t fi J G 0)) (4 * lot + 1) (tPa I F t fi J G 1)) (4 * lot + 2) (tPa I F t fi J G 2)) (4 * lot + 3) (tPa I F t fi J G 3) = _; rw [← e_p0, ← e_p1, ← e_p2, ← e_p3]; rfl) rfl rfl (fun k n27 n28 n29 n30 n31 n32 n33 n34 n35 n71 n72 => by simp [upF, va_up, n27, n28, n29, n30, n31, n32, n33, n34, n35, n71, n72])]; exact hM) hS
            refine r_icmp_le (tgt := 325) hx hb dX2_goesOn_315 (by decide) (by omega) (by decide) (fun c52 => ?_) (fun c52 => ?_)
            · refine r_iconst hx hb dX2_goesOn_325 ?_
              rw [if_neg (by omega)] at jn29
              exact jn29
            · refine lv_iload hx hb dX2_goesOn_318 (lv_at hl 0 rfl) ?_
              refine r_iconst hx hb dX2_goesOn_320 ?_
              refine r_isub hx hb dX2_goesOn_321 ?_
              refine lv_goto (tgt := 326) hx hb dX2_goesOn_322 (by decide) ?_
              rw [if_pos (by omega)] at jn29
              exact jn29
          refine r_if_ge (tgt := 297) hx hb dX2_goesOn_284 (by decide) (by omega) (fun c53 => ?_) (fun c53 => ?_)
          · refine lv_aload_n hx hb dX2_goesOn_297 rfl (lv_at hl 2 rfl) ?_
            refine mg_29 hC hM dX2_goesOn_298 ?_
            refine lv_iload_n hx hb dX2_goesOn_301 rfl (lv_at hl 3 rfl) ?_
            refine ml_29 (v := sp2) hC hM (by omega) (by simp [upF, va_up, updZ]) dX2_goesOn_302 ?_
            rw [show absI sp2 = sp2 from if_neg (by omega)] at jn28
            exact jn28
          · refine lv_aload_n hx hb dX2_goesOn_287 rfl (lv_at hl 2 rfl) ?_
            refine mg_29 hC hM dX2_goesOn_288 ?_
            refine lv_iload_n hx hb dX2_goesOn_291 rfl (lv_at hl 3 rfl) ?_
            refine ml_29 (v := sp2) hC hM (by omega) (by simp [upF, va_up, updZ]) dX2_goesOn_292 ?_
            refine r_ineg hx hb dX2_goesOn_293 ?_
            refine lv_goto (tgt := 303) hx hb dX2_goesOn_294 (by decide) ?_
            rw [show absI sp2 = -sp2 from if_pos (by omega)] at jn28
            exact jn28
        refine r_icmp_eq (tgt := 276) hx hb dX2_goesOn_269 (by decide) (by omega) (by omega) (fun c54 => ?_) (fun c54 => ?_)
        · refine r_iconst hx hb dX2_goesOn_276 ?_
          rw [if_pos (by omega)] at jn27
          exact jn27
        · refine r_iconst hx hb dX2_goesOn_272 ?_
          refine lv_goto (tgt := 277) hx hb dX2_goesOn_273 (by decide) ?_
          rw [if_neg (by omega)] at jn27
          exact jn27
      refine r_if_eq (tgt := 146) hx hb dX2_goesOn_129 (by decide) (by omega) (fun c55 => ?_) (fun c55 => ?_)
      · refine r_iconst hx hb dX2_goesOn_146 ?_
        rw [if_pos (by omega)] at jn26
        exact jn26
      · refine lv_aload_n hx hb dX2_goesOn_132 rfl (lv_at hl 1 rfl) ?_
        refine mg_29 hC hM dX2_goesOn_133 ?_
        refine lv_iload_n hx hb dX2_goesOn_136 rfl (lv_at hl 2 rfl) ?_
        refine ml_29 (v := J 1) hC hM (by omega) e29 dX2_goesOn_137 ?_
        refine r_ineg hx hb dX2_goesOn_138 ?_
        refine lv_iload_n hx hb dX2_goesOn_139 rfl (lv_at hl 4 rfl) ?_
        refine r_imul hx hb dX2_goesOn_140 ?_
        refine r_iconst hx hb dX2_goesOn_141 ?_
        refine r_idiv hx hb dX2_goesOn_142 (by omega) (by decide) (by decide) ?_
        refine lv_goto (tgt := 147) hx hb dX2_goesOn_143 (by decide) ?_
        rw [if_neg (by omega)] at jn26
        exact jn26
    · have c2 : tLv I F (J 0) = -2147483648 := c2
      have eJ : tkJ I F t fi J G = fun k => if k = 5 ∨ k = 6 then 0 else if k = 4 then 1 else J k := by funext k; unfold tkJ; rw [if_neg c1, if_pos c2]
      have eG : tkG I F t fi J G = fun k => if k = 0 then tPl I F J G else G k := by funext k; unfold tkG; rw [if_neg c1, if_pos c2]
      refine lv_aload_n hx hb dX2_goesOn_36 rfl (lv_at hl 0 rfl) ?_
      refine mg_32 hC hM dX2_goesOn_37 ?_
      refine lv_iload_n hx hb dX2_goesOn_40 rfl (lv_at hl 1 rfl) ?_
      refine r_iconst hx hb dX2_goesOn_41 ?_
      refine ms_32 (v := 1) hC hM hS (by omega) (by decide) dX2_goesOn_42 (fun H locs hM hS => ?_)
      refine r_iconst hx hb dX2_goesOn_43 ?_
      exact m_zret hC hQ hr hlk hM hS (by decide) dX2_goesOn_44 (⟨by rw [eJ]; rfl, ⟨_, _, by rw [eJ]; rfl⟩, ⟨F 71, F 72, by rw [eJ, eG]; exact setLot_ext e27s (updZ_id e28) (updZ_id e29) (updZ_id e30) (updZ_id e31) rfl (fedT_id e33) (fedT_id e34) (fedT_id e35) rfl rfl (fun k n27 _ _ _ _ n32 _ _ _ _ _ => by simp [upF, va_up, n27, n32])⟩⟩)
  · have eJ : tkJ I F t fi J G = fun k => if k = 5 ∨ k = 6 then 0 else J k := by funext k; unfold tkJ; rw [if_pos c1]
    have eG : tkG I F t fi J G = G := by funext k; unfold tkG; rw [if_pos c1]
    refine r_iconst hx hb dX2_goesOn_14 ?_
    exact m_zret hC hQ hr hlk hM hS (by decide) dX2_goesOn_15 (⟨by rw [eJ]; rfl, ⟨I 66, I 67, by rw [eJ]; exact up2s (va_up I 70 0)⟩, ⟨F 71, F 72, by rw [eJ, eG]; exact setLot_self hL⟩⟩)
