/-! THE COMPONENT: does a clause hold -/
set_option maxRecDepth 100000

theorem mkE_s {d w : Int} (h : 2 ≤ d) : mkE d w = .inr (7, [.int (iI (sgO d))]) := by
  unfold mkE
  rw [if_neg (by omega), if_neg (by omega)]
theorem dX1_holds_0 : decode cX1_holds 0 = .ok (.aload_n 0, 1) := by decide +kernel
theorem dX1_holds_1 : decode cX1_holds 1 = .ok (.getfield 3, 3) := by decide +kernel
theorem dX1_holds_4 : decode cX1_holds 4 = .ok (.getfield 64, 3) := by decide +kernel
theorem dX1_holds_7 : decode cX1_holds 7 = .ok (.iconst 0, 1) := by decide +kernel
theorem dX1_holds_8 : decode cX1_holds 8 = .ok (.aload_n 0, 1) := by decide +kernel
theorem dX1_holds_9 : decode cX1_holds 9 = .ok (.getfield 35, 3) := by decide +kernel
theorem dX1_holds_12 : decode cX1_holds 12 = .ok (.iastore, 1) := by decide +kernel
theorem dX1_holds_13 : decode cX1_holds 13 = .ok (.aload_n 0, 1) := by decide +kernel
theorem dX1_holds_14 : decode cX1_holds 14 = .ok (.getfield 3, 3) := by decide +kernel
theorem dX1_holds_17 : decode cX1_holds 17 = .ok (.getfield 64, 3) := by decide +kernel
theorem dX1_holds_20 : decode cX1_holds 20 = .ok (.iconst 1, 1) := by decide +kernel
theorem dX1_holds_21 : decode cX1_holds 21 = .ok (.aload_n 0, 1) := by decide +kernel
theorem dX1_holds_22 : decode cX1_holds 22 = .ok (.getfield 39, 3) := by decide +kernel
theorem dX1_holds_25 : decode cX1_holds 25 = .ok (.iastore, 1) := by decide +kernel
theorem dX1_holds_26 : decode cX1_holds 26 = .ok (.aload_n 0, 1) := by decide +kernel
theorem dX1_holds_27 : decode cX1_holds 27 = .ok (.getfield 3, 3) := by decide +kernel
theorem dX1_holds_30 : decode cX1_holds 30 = .ok (.getfield 64, 3) := by decide +kernel
theorem dX1_holds_33 : decode cX1_holds 33 = .ok (.iconst 2, 1) := by decide +kernel
theorem dX1_holds_34 : decode cX1_holds 34 = .ok (.aload_n 0, 1) := by decide +kernel
theorem dX1_holds_35 : decode cX1_holds 35 = .ok (.getfield 42, 3) := by decide +kernel
theorem dX1_holds_38 : decode cX1_holds 38 = .ok (.iastore, 1) := by decide +kernel
theorem dX1_holds_39 : decode cX1_holds 39 = .ok (.aload_n 0, 1) := by decide +kernel
theorem dX1_holds_40 : decode cX1_holds 40 = .ok (.getfield 3, 3) := by decide +kernel
theorem dX1_holds_43 : decode cX1_holds 43 = .ok (.getfield 64, 3) := by decide +kernel
theorem dX1_holds_46 : decode cX1_holds 46 = .ok (.iconst 3, 1) := by decide +kernel
theorem dX1_holds_47 : decode cX1_holds 47 = .ok (.aload_n 0, 1) := by decide +kernel
theorem dX1_holds_48 : decode cX1_holds 48 = .ok (.getfield 45, 3) := by decide +kernel
theorem dX1_holds_51 : decode cX1_holds 51 = .ok (.iastore, 1) := by decide +kernel
theorem dX1_holds_52 : decode cX1_holds 52 = .ok (.aload_n 0, 1) := by decide +kernel
theorem dX1_holds_53 : decode cX1_holds 53 = .ok (.getfield 3, 3) := by decide +kernel
theorem dX1_holds_56 : decode cX1_holds 56 = .ok (.getfield 64, 3) := by decide +kernel
theorem dX1_holds_59 : decode cX1_holds 59 = .ok (.iconst 4, 1) := by decide +kernel
theorem dX1_holds_60 : decode cX1_holds 60 = .ok (.aload_n 0, 1) := by decide +kernel
theorem dX1_holds_61 : decode cX1_holds 61 = .ok (.getfield 3, 3) := by decide +kernel
theorem dX1_holds_64 : decode cX1_holds 64 = .ok (.aload_n 0, 1) := by decide +kernel
theorem dX1_holds_65 : decode cX1_holds 65 = .ok (.getfield 42, 3) := by decide +kernel
theorem dX1_holds_68 : decode cX1_holds 68 = .ok (.invokevirtual 67, 3) := by decide +kernel
theorem dX1_holds_71 : decode cX1_holds 71 = .ok (.iastore, 1) := by decide +kernel
theorem dX1_holds_72 : decode cX1_holds 72 = .ok (.aload_n 0, 1) := by decide +kernel
theorem dX1_holds_73 : decode cX1_holds 73 = .ok (.getfield 3, 3) := by decide +kernel
theorem dX1_holds_76 : decode cX1_holds 76 = .ok (.getfield 64, 3) := by decide +kernel
theorem dX1_holds_79 : decode cX1_holds 79 = .ok (.iconst 5, 1) := by decide +kernel
theorem dX1_holds_80 : decode cX1_holds 80 = .ok (.iconst 0, 1) := by decide +kernel
theorem dX1_holds_81 : decode cX1_holds 81 = .ok (.iastore, 1) := by decide +kernel
theorem dX1_holds_82 : decode cX1_holds 82 = .ok (.iconst 0, 1) := by decide +kernel
theorem dX1_holds_83 : decode cX1_holds 83 = .ok (.istore_n 2, 1) := by decide +kernel
theorem dX1_holds_84 : decode cX1_holds 84 = .ok (.iload_n 2, 1) := by decide +kernel
theorem dX1_holds_85 : decode cX1_holds 85 = .ok (.aload_n 0, 1) := by decide +kernel
theorem dX1_holds_86 : decode cX1_holds 86 = .ok (.getfield 3, 3) := by decide +kernel
theorem dX1_holds_89 : decode cX1_holds 89 = .ok (.getfield 70, 3) := by decide +kernel
theorem dX1_holds_92 : decode cX1_holds 92 = .ok (.if_icmp .ge 35, 3) := by decide +kernel
theorem dX1_holds_95 : decode cX1_holds 95 = .ok (.aload_n 0, 1) := by decide +kernel
theorem dX1_holds_96 : decode cX1_holds 96 = .ok (.getfield 3, 3) := by decide +kernel
theorem dX1_holds_99 : decode cX1_holds 99 = .ok (.getfield 64, 3) := by decide +kernel
theorem dX1_holds_102 : decode cX1_holds 102 = .ok (.iconst 5, 1) := by decide +kernel
theorem dX1_holds_103 : decode cX1_holds 103 = .ok (.dup2, 1) := by decide +kernel
theorem dX1_holds_104 : decode cX1_holds 104 = .ok (.iaload, 1) := by decide +kernel
theorem dX1_holds_105 : decode cX1_holds 105 = .ok (.aload_n 0, 1) := by decide +kernel
theorem dX1_holds_106 : decode cX1_holds 106 = .ok (.getfield 25, 3) := by decide +kernel
theorem dX1_holds_109 : decode cX1_holds 109 = .ok (.iload_n 2, 1) := by decide +kernel
theorem dX1_holds_110 : decode cX1_holds 110 = .ok (.baload, 1) := by decide +kernel
theorem dX1_holds_111 : decode cX1_holds 111 = .ok (.ifCond .eq 7, 3) := by decide +kernel
theorem dX1_holds_114 : decode cX1_holds 114 = .ok (.iconst 1, 1) := by decide +kernel
theorem dX1_holds_115 : decode cX1_holds 115 = .ok (.goto 4, 3) := by decide +kernel
theorem dX1_holds_118 : decode cX1_holds 118 = .ok (.iconst 0, 1) := by decide +kernel
theorem dX1_holds_119 : decode cX1_holds 119 = .ok (.iadd, 1) := by decide +kernel
theorem dX1_holds_120 : decode cX1_holds 120 = .ok (.iastore, 1) := by decide +kernel
theorem dX1_holds_121 : decode cX1_holds 121 = .ok (.iinc 2 1, 3) := by decide +kernel
theorem dX1_holds_124 : decode cX1_holds 124 = .ok (.goto (-40), 3) := by decide +kernel
theorem dX1_holds_127 : decode cX1_holds 127 = .ok (.aload_n 0, 1) := by decide +kernel
theorem dX1_holds_128 : decode cX1_holds 128 = .ok (.getfield 3, 3) := by decide +kernel
theorem dX1_holds_131 : decode cX1_holds 131 = .ok (.getfield 64, 3) := by decide +kernel
theorem dX1_holds_134 : decode cX1_holds 134 = .ok (.bipush 6, 2) := by decide +kernel
theorem dX1_holds_136 : decode cX1_holds 136 = .ok (.iconst 0, 1) := by decide +kernel
theorem dX1_holds_137 : decode cX1_holds 137 = .ok (.iastore, 1) := by decide +kernel
theorem dX1_holds_138 : decode cX1_holds 138 = .ok (.iconst 0, 1) := by decide +kernel
theorem dX1_holds_139 : decode cX1_holds 139 = .ok (.istore_n 2, 1) := by decide +kernel
theorem dX1_holds_140 : decode cX1_holds 140 = .ok (.iload_n 2, 1) := by decide +kernel
theorem dX1_holds_141 : decode cX1_holds 141 = .ok (.aload_n 0, 1) := by decide +kernel
theorem dX1_holds_142 : decode cX1_holds 142 = .ok (.getfield 3, 3) := by decide +kernel
theorem dX1_holds_145 : decode cX1_holds 145 = .ok (.getfield 73, 3) := by decide +kernel
theorem dX1_holds_148 : decode cX1_holds 148 = .ok (.invokevirtual 77, 3) := by decide +kernel
theorem dX1_holds_151 : decode cX1_holds 151 = .ok (.if_icmp .ge 73, 3) := by decide +kernel
theorem dX1_holds_154 : decode cX1_holds 154 = .ok (.aload_n 0, 1) := by decide +kernel
theorem dX1_holds_155 : decode cX1_holds 155 = .ok (.getfield 3, 3) := by decide +kernel
theorem dX1_holds_158 : decode cX1_holds 158 = .ok (.getfield 64, 3) := by decide +kernel
theorem dX1_holds_161 : decode cX1_holds 161 = .ok (.bipush 6, 2) := by decide +kernel
theorem dX1_holds_163 : decode cX1_holds 163 = .ok (.dup2, 1) := by decide +kernel
theorem dX1_holds_164 : decode cX1_holds 164 = .ok (.iaload, 1) := by decide +kernel
theorem dX1_holds_165 : decode cX1_holds 165 = .ok (.aload_n 0, 1) := by decide +kernel
theorem dX1_holds_166 : decode cX1_holds 166 = .ok (.getfield 3, 3) := by decide +kernel
theorem dX1_holds_169 : decode cX1_holds 169 = .ok (.getfield 73, 3) := by decide +kernel
theorem dX1_holds_172 : decode cX1_holds 172 = .ok (.iload_n 2, 1) := by decide +kernel
theorem dX1_holds_173 : decode cX1_holds 173 = .ok (.invokevirtual 83, 3) := by decide +kernel
theorem dX1_holds_176 : decode cX1_holds 176 = .ok (.checkcast 87, 3) := by decide +kernel
theorem dX1_holds_179 : decode cX1_holds 179 = .ok (.getfield 89, 3) := by decide +kernel
theorem dX1_holds_182 : decode cX1_holds 182 = .ok (.ifCond .ne 33, 3) := by decide +kernel
theorem dX1_holds_185 : decode cX1_holds 185 = .ok (.aload_n 0, 1) := by decide +kernel
theorem dX1_holds_186 : decode cX1_holds 186 = .ok (.getfield 15, 3) := by decide +kernel
theorem dX1_holds_189 : decode cX1_holds 189 = .ok (.iload_n 2, 1) := by decide +kernel
theorem dX1_holds_190 : decode cX1_holds 190 = .ok (.iaload, 1) := by decide +kernel
theorem dX1_holds_191 : decode cX1_holds 191 = .ok (.aload_n 0, 1) := by decide +kernel
theorem dX1_holds_192 : decode cX1_holds 192 = .ok (.getfield 3, 3) := by decide +kernel
theorem dX1_holds_195 : decode cX1_holds 195 = .ok (.getfield 73, 3) := by decide +kernel
theorem dX1_holds_198 : decode cX1_holds 198 = .ok (.iload_n 2, 1) := by decide +kernel
theorem dX1_holds_199 : decode cX1_holds 199 = .ok (.invokevirtual 83, 3) := by decide +kernel
theorem dX1_holds_202 : decode cX1_holds 202 = .ok (.checkcast 87, 3) := by decide +kernel
theorem dX1_holds_205 : decode cX1_holds 205 = .ok (.getfield 92, 3) := by decide +kernel
theorem dX1_holds_208 : decode cX1_holds 208 = .ok (.if_icmp .eq 7, 3) := by decide +kernel
theorem dX1_holds_211 : decode cX1_holds 211 = .ok (.iconst 1, 1) := by decide +kernel
theorem dX1_holds_212 : decode cX1_holds 212 = .ok (.goto 4, 3) := by decide +kernel
theorem dX1_holds_215 : decode cX1_holds 215 = .ok (.iconst 0, 1) := by decide +kernel
theorem dX1_holds_216 : decode cX1_holds 216 = .ok (.iadd, 1) := by decide +kernel
theorem dX1_holds_217 : decode cX1_holds 217 = .ok (.iastore, 1) := by decide +kernel
theorem dX1_holds_218 : decode cX1_holds 218 = .ok (.iinc 2 1, 3) := by decide +kernel
theorem dX1_holds_221 : decode cX1_holds 221 = .ok (.goto (-81), 3) := by decide +kernel
theorem dX1_holds_224 : decode cX1_holds 224 = .ok (.aload_n 0, 1) := by decide +kernel
theorem dX1_holds_225 : decode cX1_holds 225 = .ok (.getfield 3, 3) := by decide +kernel
theorem dX1_holds_228 : decode cX1_holds 228 = .ok (.getfield 95, 3) := by decide +kernel
theorem dX1_holds_231 : decode cX1_holds 231 = .ok (.ifnull 15, 3) := by decide +kernel
theorem dX1_holds_234 : decode cX1_holds 234 = .ok (.aload_n 0, 1) := by decide +kernel
theorem dX1_holds_235 : decode cX1_holds 235 = .ok (.getfield 3, 3) := by decide +kernel
theorem dX1_holds_238 : decode cX1_holds 238 = .ok (.getfield 95, 3) := by decide +kernel
theorem dX1_holds_241 : decode cX1_holds 241 = .ok (.iload_n 1, 1) := by decide +kernel
theorem dX1_holds_242 : decode cX1_holds 242 = .ok (.aaload, 1) := by decide +kernel
theorem dX1_holds_243 : decode cX1_holds 243 = .ok (.ifnonnull 5, 3) := by decide +kernel
theorem dX1_holds_246 : decode cX1_holds 246 = .ok (.iconst 1, 1) := by decide +kernel
theorem dX1_holds_247 : decode cX1_holds 247 = .ok (.ireturn, 1) := by decide +kernel
theorem dX1_holds_248 : decode cX1_holds 248 = .ok (.iconst 0, 1) := by decide +kernel
theorem dX1_holds_249 : decode cX1_holds 249 = .ok (.istore_n 2, 1) := by decide +kernel
theorem dX1_holds_250 : decode cX1_holds 250 = .ok (.iconst 0, 1) := by decide +kernel
theorem dX1_holds_251 : decode cX1_holds 251 = .ok (.istore_n 3, 1) := by decide +kernel
theorem dX1_holds_252 : decode cX1_holds 252 = .ok (.iload_n 3, 1) := by decide +kernel
theorem dX1_holds_253 : decode cX1_holds 253 = .ok (.aload_n 0, 1) := by decide +kernel
theorem dX1_holds_254 : decode cX1_holds 254 = .ok (.getfield 3, 3) := by decide +kernel
theorem dX1_holds_257 : decode cX1_holds 257 = .ok (.getfield 95, 3) := by decide +kernel
theorem dX1_holds_260 : decode cX1_holds 260 = .ok (.iload_n 1, 1) := by decide +kernel
theorem dX1_holds_261 : decode cX1_holds 261 = .ok (.aaload, 1) := by decide +kernel
theorem dX1_holds_262 : decode cX1_holds 262 = .ok (.arraylength, 1) := by decide +kernel
theorem dX1_holds_263 : decode cX1_holds 263 = .ok (.if_icmp .ge 39, 3) := by decide +kernel
theorem dX1_holds_266 : decode cX1_holds 266 = .ok (.aload_n 0, 1) := by decide +kernel
theorem dX1_holds_267 : decode cX1_holds 267 = .ok (.getfield 3, 3) := by decide +kernel
theorem dX1_holds_270 : decode cX1_holds 270 = .ok (.getfield 95, 3) := by decide +kernel
theorem dX1_holds_273 : decode cX1_holds 273 = .ok (.iload_n 1, 1) := by decide +kernel
theorem dX1_holds_274 : decode cX1_holds 274 = .ok (.aaload, 1) := by decide +kernel
theorem dX1_holds_275 : decode cX1_holds 275 = .ok (.iload_n 3, 1) := by decide +kernel
theorem dX1_holds_276 : decode cX1_holds 276 = .ok (.aaload, 1) := by decide +kernel
theorem dX1_holds_277 : decode cX1_holds 277 = .ok (.aload_n 0, 1) := by decide +kernel
theorem dX1_holds_278 : decode cX1_holds 278 = .ok (.getfield 3, 3) := by decide +kernel
theorem dX1_holds_281 : decode cX1_holds 281 = .ok (.getfield 99, 3) := by decide +kernel
theorem dX1_holds_284 : decode cX1_holds 284 = .ok (.iload_n 2, 1) := by decide +kernel
theorem dX1_holds_285 : decode cX1_holds 285 = .ok (.aload_n 0, 1) := by decide +kernel
theorem dX1_holds_286 : decode cX1_holds 286 = .ok (.getfield 3, 3) := by decide +kernel
theorem dX1_holds_289 : decode cX1_holds 289 = .ok (.getfield 64, 3) := by decide +kernel
theorem dX1_holds_292 : decode cX1_holds 292 = .ok (.invokevirtual 102, 3) := by decide +kernel
theorem dX1_holds_295 : decode cX1_holds 295 = .ok (.istore_n 2, 1) := by decide +kernel
theorem dX1_holds_296 : decode cX1_holds 296 = .ok (.iinc 3 1, 3) := by decide +kernel
theorem dX1_holds_299 : decode cX1_holds 299 = .ok (.goto (-47), 3) := by decide +kernel
theorem dX1_holds_302 : decode cX1_holds 302 = .ok (.aload_n 0, 1) := by decide +kernel
theorem dX1_holds_303 : decode cX1_holds 303 = .ok (.getfield 3, 3) := by decide +kernel
theorem dX1_holds_306 : decode cX1_holds 306 = .ok (.getfield 99, 3) := by decide +kernel
theorem dX1_holds_309 : decode cX1_holds 309 = .ok (.iconst 0, 1) := by decide +kernel
theorem dX1_holds_310 : decode cX1_holds 310 = .ok (.iaload, 1) := by decide +kernel
theorem dX1_holds_311 : decode cX1_holds 311 = .ok (.iconst 1, 1) := by decide +kernel
theorem dX1_holds_312 : decode cX1_holds 312 = .ok (.if_icmp .ne 7, 3) := by decide +kernel
theorem dX1_holds_315 : decode cX1_holds 315 = .ok (.iconst 1, 1) := by decide +kernel
theorem dX1_holds_316 : decode cX1_holds 316 = .ok (.goto 4, 3) := by decide +kernel
theorem dX1_holds_319 : decode cX1_holds 319 = .ok (.iconst 0, 1) := by decide +kernel
theorem dX1_holds_320 : decode cX1_holds 320 = .ok (.ireturn, 1) := by decide +kernel
set_option maxHeartbeats 4000000 in
theorem cholds_19 (l : Launch) (adK adV st : Nat → Nat) (D : va_G) (E : Nat → ClassId) (A : Nat → Prop) (ad nv : Nat → Nat) (I : Nat → Int) (F : Nat → Int → Int) (S : Nat → Nat → Int) (Y : Nat → Int → Int) (L : Nat → Nat) (ci : Int) (hc : 0 ≤ ci ∧ ci ≤ 1) (hn : cOK nv I L) (gs0 : gSea I F) (gl0 : gLoad I F) (gm0 : gMark I F) (gr0 : gRule F) (hru : S 0 2 = 0 → F 64 0 = -1 ∧ F 64 1 = -1) (b28 : -80 ≤ S 19 4 ∧ S 19 4 ≤ 80) (b29 : -30 ≤ S 19 5 ∧ S 19 5 ≤ 30) (ht : 0 ≤ S 19 7 ∧ S 19 7 ≤ 1000) (b30 : 0 ≤ S 19 8 ∧ S 19 8 ≤ 100000) (gp0 : Bd (Y 21) 12 (-19) 19) (gw0 : Bd (Y 24) 6 0 1) : CM l yX1_holds cX1_holds 4 (some .boolean) (mrm 5) adK adV st D E A ad nv [.ref (ad 19), .int (iI ci)] I F S Y L (CQi D E A ad nv L (fun z I1 F1 S1 Y1 => soZ F ci (nmS I F (S 19 4) (S 19 5) (S 19 7) (S 19 8) (Y 24) (Y 21)) = z ∧ I = I1 ∧ F = F1 ∧ S = S1 ∧ ∃ g g1, va_up (va_up Y 3 g) 2 g1 = Y1)) := by
  refine c_start (by decide) rfl (Nat.le_of_ble_eq_true rfl) ?_
  intro p e R s m args below meth c ls Q hR hQ hCK hml hr hlk hG hS hE hl
  have hx := hCK.1
  have hb := hCK.2.1
  have hown := hCK.2.2.1
  have hts := hCK.2.2.2.1
  have hK := hCK.2.2.2.2
  have hl : lv_has ls 4 [(0, .ref (ad 19)), (1, .int (iI ci))] := hl
  obtain ⟨⟨n0, n1, n2, n3⟩, ⟨l0, l1, l2, l3⟩, c0, c1, c2, c3⟩ := id hn
  obtain ⟨i4, a5, a6, a7, a8, a9, i10, a11, a12, a13, a14, a14h⟩ := id gl0
  obtain ⟨i15, a16, a17⟩ := id gm0
  have hnb := nmS_bd (wet := Y 24) (pl := Y 21) b28 b29 ht b30 gs0 i15 i4
  refine lv_aload_n hx hb dX1_holds_0 rfl (lv_at hl 0 rfl) ?_
  refine cg_X1_3 hCK hG (r := 19) (Or.inl rfl) dX1_holds_1 ?_
  refine cg_X1_64 hCK hE hG dX1_holds_4 ?_
  refine r_iconst hx hb dX1_holds_7 ?_
  refine lv_aload_n hx hb dX1_holds_8 rfl (lv_at hl 0 rfl) ?_
  refine cg_X1_35 (v := S 19 4) hCK hG (r := 19) (Or.inl rfl) rfl dX1_holds_9 ?_
  refine cs_3 (z := 0) (v := S 19 4) hCK hG hS (by decide) dX1_holds_12 (fun H locs hG hS => ?_)
  have hG : CW D E A ad nv I F S (va_up Y 3 (updZ (Y 3) 0 (S 19 4))) L H := hG
  refine lv_aload_n hx hb dX1_holds_13 rfl (lv_at hl 0 rfl) ?_
  refine cg_X1_3 hCK hG (r := 19) (Or.inl rfl) dX1_holds_14 ?_
  refine cg_X1_64 hCK hE hG dX1_holds_17 ?_
  refine r_iconst hx hb dX1_holds_20 ?_
  refine lv_aload_n hx hb dX1_holds_21 rfl (lv_at hl 0 rfl) ?_
  refine cg_X1_39 (v := S 19 5) hCK hG (r := 19) (Or.inl rfl) rfl dX1_holds_22 ?_
  refine cs_3 (z := 1) (v := S 19 5) hCK hG hS (by decide) dX1_holds_25 (fun H locs hG hS => ?_)
  have hG : CW D E A ad nv I F S (va_up Y 3 (updZ (updZ (Y 3) 0 (S 19 4)) 1 (S 19 5))) L H := by
    have eY : va_up Y 3 (updZ (updZ (Y 3) 0 (S 19 4)) 1 (S 19 5)) = va_up (va_up Y 3 (updZ (Y 3) 0 (S 19 4))) 3 (updZ ((va_up Y 3 (updZ (Y 3) 0 (S 19 4))) 3) 1 (S 19 5)) := by
      funext i
      by_cases h1 : i = 3
      · subst h1; simp [va_up]
      · simp [va_up, h1]
    rw [eY]; exact hG
  refine lv_aload_n hx hb dX1_holds_26 rfl (lv_at hl 0 rfl) ?_
  refine cg_X1_3 hCK hG (r := 19) (Or.inl rfl) dX1_holds_27 ?_
  refine cg_X1_64 hCK hE hG dX1_holds_30 ?_
  refine r_iconst hx hb dX1_holds_33 ?_
  refine lv_aload_n hx hb dX1_holds_34 rfl (lv_at hl 0 rfl) ?_
  refine cg_X1_42 (v := S 19 7) hCK hG (r := 19) (Or.inl rfl) rfl dX1_holds_35 ?_
  refine cs_3 (z := 2) (v := S 19 7) hCK hG hS (by decide) dX1_holds_38 (fun H locs hG hS => ?_)
  have hG : CW D E A ad nv I F S (va_up Y 3 (updZ (updZ (updZ (Y 3) 0 (S 19 4)) 1 (S 19 5)) 2 (S 19 7))) L H := by
    have eY : va_up Y 3 (updZ (updZ (updZ (Y 3) 0 (S 19 4)) 1 (S 19 5)) 2 (S 19 7)) = va_up (va_up Y 3 (updZ (updZ (Y 3) 0 (S 19 4)) 1 (S 19 5))) 3 (updZ ((va_up Y 3 (updZ (updZ (Y 3) 0 (S 19 4)) 1 (S 19 5))) 3) 2 (S 19 7)) := by
      funext i
      by_cases h1 : i = 3
      · subst h1; simp [va_up]
      · simp [va_up, h1]
    rw [eY]; exact hG
  refine lv_aload_n hx hb dX1_holds_39 rfl (lv_at hl 0 rfl) ?_
  refine cg_X1_3 hCK hG (r := 19) (Or.inl rfl) dX1_holds_40 ?_
  refine cg_X1_64 hCK hE hG dX1_holds_43 ?_
  refine r_iconst hx hb dX1_holds_46 ?_
  refine lv_aload_n hx hb dX1_holds_47 rfl (lv_at hl 0 rfl) ?_
  refine cg_X1_45 (v := S 19 8) hCK hG (r := 19) (Or.inl rfl) rfl dX1_holds_48 ?_
  refine cs_3 (z := 3) (v := S 19 8) hCK hG hS (by decide) dX1_holds_51 (fun H locs hG hS => ?_)
  have hG : CW D E A ad nv I F S (va_up Y 3 (updZ (updZ (updZ (updZ (Y 3) 0 (S 19 4)) 1 (S 19 5)) 2 (S 19 7)) 3 (S 19 8))) L H := by
    have eY : va_up Y 3 (updZ (updZ (updZ (updZ (Y 3) 0 (S 19 4)) 1 (S 19 5)) 2 (S 19 7)) 3 (S 19 8)) = va_up (va_up Y 3 (updZ (updZ (updZ (Y 3) 0 (S 19 4)) 1 (S 19 5)) 2 (S 19 7))) 3 (updZ ((va_up Y 3 (updZ (updZ (updZ (Y 3) 0 (S 19 4)) 1 (S 19 5)) 2 (S 19 7))) 3) 3 (S 19 8)) := by
      funext i
      by_cases h1 : i = 3
      · subst h1; simp [va_up]
      · simp [va_up, h1]
    rw [eY]; exact hG
  refine lv_aload_n hx hb dX1_holds_52 rfl (lv_at hl 0 rfl) ?_
  refine cg_X1_3 hCK hG (r := 19) (Or.inl rfl) dX1_holds_53 ?_
  refine cg_X1_64 hCK hE hG dX1_holds_56 ?_
  refine r_iconst hx hb dX1_holds_59 ?_
  refine lv_aload_n hx hb dX1_holds_60 rfl (lv_at hl 0 rfl) ?_
  refine cg_X1_3 hCK hG (r := 19) (Or.inl rfl) dX1_holds_61 ?_
  refine lv_aload_n hx hb dX1_holds_64 rfl (lv_at hl 0 rfl) ?_
  refine cg_X1_42 (v := S 19 7) hCK hG (r := 19) (Or.inl rfl) rfl dX1_holds_65 ?_
  refine s_calli (j_runVN (n := 1) (C0 := RX0) (b := ad 0) (rest := [.int (iI 4), .ref (ad 3)]) (as := [.int (iI (S 19 7))]) hx hb hml hown hts hE (cseaAt l adK adV st D E A ad nv I F S (va_up Y 3 (updZ (updZ (updZ (updZ (Y 3) 0 (S 19 4)) 1 (S 19 5)) 2 (S 19 7)) 3 (S 19 8))) L (S 19 7) (by omega) hn gs0) GB.blind (GB.at hK hG hE hS) (g_rec (r := 0) (ci := 0) hK hG (Or.inl (by decide)) rfl cC_0) q871 q824 qs23 q68 q825 (by decide +kernel) ⟨rfl, rfl⟩ hR (by decide) ⟨Nat.zero_le _, Nat.zero_le _⟩ rfl hl.1 rfl (Nat.le_of_ble_eq_true rfl) dX1_holds_68) ?_
  refine cs_3 (z := 4) (v := seaS (I 18) (F 19) (F 20) (F 21) (S 19 7)) hCK hG hS (by decide) dX1_holds_71 (fun H locs hG hS => ?_)
  have hG : CW D E A ad nv I F S (va_up Y 3 (updZ (updZ (updZ (updZ (updZ (Y 3) 0 (S 19 4)) 1 (S 19 5)) 2 (S 19 7)) 3 (S 19 8)) 4 (seaS (I 18) (F 19) (F 20) (F 21) (S 19 7)))) L H := by
    have eY : va_up Y 3 (updZ (updZ (updZ (updZ (updZ (Y 3) 0 (S 19 4)) 1 (S 19 5)) 2 (S 19 7)) 3 (S 19 8)) 4 (seaS (I 18) (F 19) (F 20) (F 21) (S 19 7))) = va_up (va_up Y 3 (updZ (updZ (updZ (updZ (Y 3) 0 (S 19 4)) 1 (S 19 5)) 2 (S 19 7)) 3 (S 19 8))) 3 (updZ ((va_up Y 3 (updZ (updZ (updZ (updZ (Y 3) 0 (S 19 4)) 1 (S 19 5)) 2 (S 19 7)) 3 (S 19 8))) 3) 4 (seaS (I 18) (F 19) (F 20) (F 21) (S 19 7))) := by
      funext i
      by_cases h1 : i = 3
      · subst h1; simp [va_up]
      · simp [va_up, h1]
    rw [eY]; exact hG
  refine lv_aload_n hx hb dX1_holds_72 rfl (lv_at hl 0 rfl) ?_
  refine cg_X1_3 hCK hG (r := 19) (Or.inl rfl) dX1_holds_73 ?_
  refine cg_X1_64 hCK hE hG dX1_holds_76 ?_
  refine r_iconst hx hb dX1_holds_79 ?_
  refine r_iconst hx hb dX1_holds_80 ?_
  refine cs_3 (z := 5) (v := 0) hCK hG hS (by decide) dX1_holds_81 (fun H locs hG hS => ?_)
  have hG : CW D E A ad nv I F S (va_up Y 3 (updZ (updZ (updZ (updZ (updZ (updZ (Y 3) 0 (S 19 4)) 1 (S 19 5)) 2 (S 19 7)) 3 (S 19 8)) 4 (seaS (I 18) (F 19) (F 20) (F 21) (S 19 7))) 5 0)) L H := by
    have eY : va_up Y 3 (updZ (updZ (updZ (updZ (updZ (updZ (Y 3) 0 (S 19 4)) 1 (S 19 5)) 2 (S 19 7)) 3 (S 19 8)) 4 (seaS (I 18) (F 19) (F 20) (F 21) (S 19 7))) 5 0) = va_up (va_up Y 3 (updZ (updZ (updZ (updZ (updZ (Y 3) 0 (S 19 4)) 1 (S 19 5)) 2 (S 19 7)) 3 (S 19 8)) 4 (seaS (I 18) (F 19) (F 20) (F 21) (S 19 7)))) 3 (updZ ((va_up Y 3 (updZ (updZ (updZ (updZ (updZ (Y 3) 0 (S 19 4)) 1 (S 19 5)) 2 (S 19 7)) 3 (S 19 8)) 4 (seaS (I 18) (F 19) (F 20) (F 21) (S 19 7)))) 3) 5 0) := by
      funext i
      by_cases h1 : i = 3
      · subst h1; simp [va_up]
      · simp [va_up, h1]
    rw [eY]; exact hG
  refine r_iconst hx hb dX1_holds_82 ?_
  refine lv_istore_n (lv' := [(2, .int (iI 0)), (0, .ref (ad 19)), (1, .int (iI ci))]) hx hb dX1_holds_83 rfl hl (by decide) rfl (fun ls hl => ?_)
  have loop84_1 : ∀ (n : Nat) (k : Int) (Y1 : Nat → Int → Int), I 15 - k < (n : Int) → 0 ≤ k → k ≤ I 15 → (∃ g, Y1 = va_up Y 3 g ∧ (∀ i, 0 ≤ i → i < 5 → g i = (nmS I F (S 19 4) (S 19 5) (S 19 7) (S 19 8) (Y 24) (Y 21)) i) ∧ g 5 = sm (fun m => if Y 24 m = 0 then 0 else 1) k) → ∀ (H : Heap) (locs : List Loc) (ls : Array Slot), CW D E A ad nv I F S Y1 L H → va_S A s.heap H locs → lv_has ls 4 [(2, .int (iI k)), (0, .ref (ad 19)), (1, .int (iI ci))] → W p l e R s m args below meth c H locs 0 0 Q (F0 m 84 ls []) := by
    intro n
    induction n with
    | zero => intro k Y1 hn3 hk0 hk1 eY; exfalso; omega
    | succ n ih2 =>
      intro k Y1 hn3 hk0 hk1 eY H locs ls hG hS hl
      obtain ⟨g, rfl, hg, g5⟩ := eY
      refine lv_iload_n hx hb dX1_holds_84 rfl (lv_at hl 0 rfl) ?_
      refine lv_aload_n hx hb dX1_holds_85 rfl (lv_at hl 1 rfl) ?_
      refine cg_X1_3 hCK hG (r := 19) (Or.inl rfl) dX1_holds_86 ?_
      refine cg_X1_70 (v := I 15) hCK hE hG rfl dX1_holds_89 ?_
      refine r_icmp_ge (tgt := 127) hx hb dX1_holds_92 (by decide) (by omega) (by omega) (fun c4 => ?_) (fun c4 => ?_)
      · have ek : k = I 15 := by omega
        refine lv_aload_n hx hb dX1_holds_127 rfl (lv_at hl 1 rfl) ?_
        refine cg_X1_3 hCK hG (r := 19) (Or.inl rfl) dX1_holds_128 ?_
        refine cg_X1_64 hCK hE hG dX1_holds_131 ?_
        refine r_bipush hx hb dX1_holds_134 (by decide) ?_
        refine r_iconst hx hb dX1_holds_136 ?_
        refine cs_3 (z := 6) (v := 0) hCK hG hS (by decide) dX1_holds_137 (fun H locs hG hS => ?_)
        have hG : CW D E A ad nv I F S (va_up Y 3 (updZ g 6 0)) L H := by
          have eY : va_up Y 3 (updZ g 6 0) = va_up (va_up Y 3 g) 3 (updZ ((va_up Y 3 g) 3) 6 0) := by
            funext i
            by_cases h1 : i = 3
            · subst h1; simp [va_up]
            · simp [va_up, h1]
          rw [eY]; exact hG
        refine r_iconst hx hb dX1_holds_138 ?_
        refine lv_istore_n (lv' := [(2, .int (iI 0)), (0, .ref (ad 19)), (1, .int (iI ci))]) hx hb dX1_holds_139 rfl hl (by decide) rfl (fun ls hl => ?_)
        have loop140_5 : ∀ (n : Nat) (j : Int) (Y1 : Nat → Int → Int), I 4 - j < (n : Int) → 0 ≤ j → j ≤ I 4 → (∃ g, Y1 = va_up Y 3 g ∧ (∀ i, 0 ≤ i → i < 5 → g i = (nmS I F (S 19 4) (S 19 5) (S 19 7) (S 19 8) (Y 24) (Y 21)) i) ∧ g 5 = (nmS I F (S 19 4) (S 19 5) (S 19 7) (S 19 8) (Y 24) (Y 21)) 5 ∧ g 6 = sm (fun w => if F 9 w = 0 ∧ Y 21 w ≠ F 6 w then 1 else 0) j) → ∀ (H : Heap) (locs : List Loc) (ls : Array Slot), CW D E A ad nv I F S Y1 L H → va_S A s.heap H locs → lv_has ls 4 [(2, .int (iI j)), (0, .ref (ad 19)), (1, .int (iI ci))] → W p l e R s m args below meth c H locs 0 0 Q (F0 m 140 ls []) := by
          intro n
          induction n with
          | zero => intro j Y1 hn7 hj0 hj1 eY; exfalso; omega
          | succ n ih6 =>
            intro j Y1 hn7 hj0 hj1 eY H locs ls hG hS hl
            obtain ⟨g, rfl, hg, g5, g6⟩ := eY
            refine lv_iload_n hx hb dX1_holds_140 rfl (lv_at hl 0 rfl) ?_
            refine lv_aload_n hx hb dX1_holds_141 rfl (lv_at hl 1 rfl) ?_
            refine cg_X1_3 hCK hG (r := 19) (Or.inl rfl) dX1_holds_142 ?_
            refine cg_X1_73 hCK hE hG dX1_holds_145 ?_
            refine s_calli (j_runV (n := 0) (C := RJ2) (b := ad 12) (rest := [.int (iI j)]) (as := []) hx hb hml hown hts (lsz_12 l adK adV st D E A ad nv I F S (va_up Y 3 g) L) GB.blind (GB.at hK hG hE hS) (g_rec (r := 12) (ci := 10) hK hG (Or.inl (by decide)) rfl (cC_l (by decide))) q859 q614 q615 q71 q616 (by decide +kernel) ⟨rfl, rfl⟩ hR (by decide) ⟨Nat.zero_le _, Nat.zero_le _⟩ rfl hl.1 rfl (Nat.le_of_ble_eq_true rfl) dX1_holds_148) ?_
            refine r_icmp_ge (tgt := 224) hx hb dX1_holds_151 (by decide) (by omega) (by omega) (fun c8 => ?_) (fun c8 => ?_)
            · have ej : j = I 4 := by omega
              have hgn : ∀ i, 0 ≤ i → i ≤ 6 → g i = (nmS I F (S 19 4) (S 19 5) (S 19 7) (S 19 8) (Y 24) (Y 21)) i := by
                intro i i0 i1
                by_cases q5 : i < 5
                · exact hg i i0 q5
                · rcases (show i = 5 ∨ i = 6 by omega) with rfl | rfl
                  · exact g5
                  · rw [g6, ej]; rfl
              refine lv_aload_n hx hb dX1_holds_224 rfl (lv_at hl 1 rfl) ?_
              refine cg_X1_3 hCK hG (r := 19) (Or.inl rfl) dX1_holds_225 ?_
              refine cg_X1_95 hCK hE hG dX1_holds_228 ?_
              by_cases hs : S 0 2 = 0
              · rw [if_pos hs]
                have cb : F 64 ci = -1 := by rcases (show ci = 0 ∨ ci = 1 by omega) with rfl | rfl; exact (hru hs).1; exact (hru hs).2
                refine lv_ifnullN (tgt := 246) hx hb dX1_holds_231 (by decide) ?_
                refine r_iconst hx hb dX1_holds_246 ?_
                exact c_zret hCK hQ hr hlk hG hS (by decide) dX1_holds_247 (⟨if_pos cb, rfl, rfl, rfl, ⟨g, Y 2, up_self (va_up Y 3 g) 2⟩⟩)
              rw [if_neg hs]
              refine lv_ifnull hx hb dX1_holds_231 ?_
              refine lv_aload_n hx hb dX1_holds_234 rfl (lv_at hl 1 rfl) ?_
              refine cg_X1_3 hCK hG (r := 19) (Or.inl rfl) dX1_holds_235 ?_
              refine cg_X1_95 hCK hE hG dX1_holds_238 ?_
              rw [if_neg hs]
              refine lv_iload_n hx hb dX1_holds_241 rfl (lv_at hl 2 rfl) ?_
              by_cases cb : F 64 ci = -1
              · skip
                refine cl_30 (v := .null) hCK hG hs hc (by rw [if_pos cb]; rfl) dX1_holds_242 ?_
                refine lv_ifnonnullN hx hb dX1_holds_243 ?_
                refine r_iconst hx hb dX1_holds_246 ?_
                exact c_zret hCK hQ hr hlk hG hS (by decide) dX1_holds_247 (⟨if_pos cb, rfl, rfl, rfl, ⟨g, Y 2, up_self (va_up Y 3 g) 2⟩⟩)
              refine cl_30 (v := .ref (ad (31 + ci.toNat))) hCK hG hs hc (by rw [if_neg cb]; rfl) dX1_holds_242 ?_
              refine lv_ifnonnull (tgt := 248) hx hb dX1_holds_243 (by decide) ?_
              obtain ⟨hr0, hok⟩ := (gr0 ci hc.1 hc.2).resolve_left cb
              have hG : CW D E A ad nv I F S (va_up (va_up Y 3 g) 2 (Y 2)) L H := by rw [show va_up (va_up Y 3 g) 2 (Y 2) = va_up Y 3 g from up_self (va_up Y 3 g) 2]; exact hG
              refine r_iconst hx hb dX1_holds_248 ?_
              refine lv_istore_n (lv' := [(2, .int (iI 0)), (0, .ref (ad 19)), (1, .int (iI ci))]) hx hb dX1_holds_249 rfl hl (by decide) rfl (fun ls hl => ?_)
              refine r_iconst hx hb dX1_holds_250 ?_
              refine lv_istore_n (lv' := [(3, .int (iI 0)), (2, .int (iI 0)), (0, .ref (ad 19)), (1, .int (iI ci))]) hx hb dX1_holds_251 rfl hl (by decide) rfl (fun ls hl => ?_)
              have loop252_9 : ∀ (n : Nat) (top k : Int) (Y1 : Nat → Int → Int), F 65 ci - F 64 ci - k < (n : Int) → 0 ≤ k → F 64 ci + k ≤ F 65 ci → 0 ≤ top ∧ top ≤ 40 → (∃ q1 hp tp, Y1 = va_up (va_up Y 3 g) 2 q1 ∧ okM (F 62) (F 63) (F 65 ci - (F 64 ci + k)).toNat (F 64 ci + k) tp top ∧ okH hp tp top ∧ eqH q1 hp top ∧ runH (F 62) (F 63) (nmS I F (S 19 4) (S 19 5) (S 19 7) (S 19 8) (Y 24) (Y 21)) (F 65 ci - (F 64 ci + k)).toNat (F 64 ci + k) hp top = runH (F 62) (F 63) (nmS I F (S 19 4) (S 19 5) (S 19 7) (S 19 8) (Y 24) (Y 21)) (F 65 ci - F 64 ci).toNat (F 64 ci) (fun _ => 0) 0) → ∀ (H : Heap) (locs : List Loc) (ls : Array Slot), CW D E A ad nv I F S Y1 L H → va_S A s.heap H locs → lv_has ls 4 [(3, .int (iI k)), (2, .int (iI top)), (0, .ref (ad 19)), (1, .int (iI ci))] → W p l e R s m args below meth c H locs 0 0 Q (F0 m 252 ls []) := by
                intro n
                induction n with
                | zero => intro top k Y1 hn11 hk0 hk1 ht0 eY; exfalso; omega
                | succ n ih10 =>
                  intro top k Y1 hn11 hk0 hk1 ht0 eY H locs ls hG hS hl
                  obtain ⟨q1, hp, tp, rfl, hok, hoh, heq, hrun⟩ := eY
                  refine lv_iload_n hx hb dX1_holds_252 rfl (lv_at hl 0 rfl) ?_
                  refine lv_aload_n hx hb dX1_holds_253 rfl (lv_at hl 2 rfl) ?_
                  refine cg_X1_3 hCK hG (r := 19) (Or.inl rfl) dX1_holds_254 ?_
                  refine cg_X1_95 hCK hE hG dX1_holds_257 ?_
                  rw [if_neg hs]
                  refine lv_iload_n hx hb dX1_holds_260 rfl (lv_at hl 3 rfl) ?_
                  refine cl_30 (v := .ref (ad (31 + ci.toNat))) hCK hG hs hc (by rw [if_neg cb]; rfl) dX1_holds_261 ?_
                  refine c_len31 hCK hG hs hc cb (by omega) dX1_holds_262 ?_
                  refine r_icmp_ge (tgt := 302) hx hb dX1_holds_263 (by decide) (by omega) (by omega) (fun c12 => ?_) (fun c12 => ?_)
                  · rw [show (F 65 ci - (F 64 ci + k)).toNat = 0 by omega] at hok hrun
                    obtain ⟨ht1, htp⟩ := hok
                    subst ht1
                    have h01 := hoh 0 (by decide) (by decide)
                    have hq0 : q1 0 = hp 0 := heq 0 (by decide) (by decide)
                    have hrun : hp = _ := hrun
                    have h02 := h01.2 htp
                    refine lv_aload_n hx hb dX1_holds_302 rfl (lv_at hl 2 rfl) ?_
                    refine cg_X1_3 hCK hG (r := 19) (Or.inl rfl) dX1_holds_303 ?_
                    refine cg_X1_99 hCK hE hG dX1_holds_306 ?_
                    refine r_iconst hx hb dX1_holds_309 ?_
                    refine cl_2 (v := q1 0) hCK hG (by decide) rfl dX1_holds_310 ?_
                    refine r_iconst hx hb dX1_holds_311 ?_
                    refine r_icmp_ne (tgt := 319) hx hb dX1_holds_312 (by decide) (by omega) (by decide) (fun cz => ?_) (fun cz => ?_)
                    · refine r_iconst hx hb dX1_holds_319 ?_
                      exact c_zret hCK hQ hr hlk hG hS (by decide) dX1_holds_320 (⟨by unfold soZ; rw [if_neg cb, ← hrun, ← hq0, if_pos (by omega)], rfl, rfl, rfl, ⟨_, _, rfl⟩⟩)
                    · refine r_iconst hx hb dX1_holds_315 ?_
                      refine lv_goto (tgt := 320) hx hb dX1_holds_316 (by decide) ?_
                      exact c_zret hCK hQ hr hlk hG hS (by decide) dX1_holds_320 (⟨by unfold soZ; rw [if_neg cb, ← hrun, ← hq0, if_neg (by omega)], rfl, rfl, rfl, ⟨_, _, rfl⟩⟩)
                  · rw [show (F 65 ci - (F 64 ci + k)).toNat = (F 65 ci - (F 64 ci + (k + 1))).toNat + 1 by omega] at hok hrun
                    have hd := okM_d hok
                    obtain ⟨tp1, hok1, hoh1⟩ := okM_s hok hoh hnb
                    have heq1 := eqH_s (d := (F 62 (F 64 ci + k))) (w := (F 63 (F 64 ci + k))) (nm := (nmS I F (S 19 4) (S 19 5) (S 19 7) (S 19 8) (Y 24) (Y 21))) heq hd.2.1.1 (by omega)
                    have hmk := cC_mk (E := E) (ad := ad) (I := I) (F := F) (S := S) (Y := va_up (va_up Y 3 g) 2 q1) (L := L) (k := k) hc (by omega)
                    have hmv := cV_mk (nv := nv) (F := F) (S := S) (k := k) hs hc cb (by omega) (by omega)
                    have hrun1 : runH (F 62) (F 63) (nmS I F (S 19 4) (S 19 5) (S 19 7) (S 19 8) (Y 24) (Y 21)) (F 65 ci - (F 64 ci + (k + 1))).toNat (F 64 ci + k + 1) (stpH (F 62 (F 64 ci + k)) (F 63 (F 64 ci + k)) (nmS I F (S 19 4) (S 19 5) (S 19 7) (S 19 8) (Y 24) (Y 21)) hp top) (stpT (F 62 (F 64 ci + k)) top) = runH (F 62) (F 63) (nmS I F (S 19 4) (S 19 5) (S 19 7) (S 19 8) (Y 24) (Y 21)) (F 65 ci - F 64 ci).toNat (F 64 ci) (fun _ => 0) 0 := hrun
                    refine lv_aload_n hx hb dX1_holds_266 rfl (lv_at hl 2 rfl) ?_
                    refine cg_X1_3 hCK hG (r := 19) (Or.inl rfl) dX1_holds_267 ?_
                    refine cg_X1_95 hCK hE hG dX1_holds_270 ?_
                    rw [if_neg hs]
                    refine lv_iload_n hx hb dX1_holds_273 rfl (lv_at hl 3 rfl) ?_
                    refine cl_30 (v := .ref (ad (31 + ci.toNat))) hCK hG hs hc (by rw [if_neg cb]; rfl) dX1_holds_274 ?_
                    refine lv_iload_n hx hb dX1_holds_275 rfl (lv_at hl 0 rfl) ?_
                    refine cl_31m (k := k) hCK hG hs hc cb (by omega) (by omega) dX1_holds_276 ?_
                    refine lv_aload_n hx hb dX1_holds_277 rfl (lv_at hl 2 rfl) ?_
                    refine cg_X1_3 hCK hG (r := 19) (Or.inl rfl) dX1_holds_278 ?_
                    refine cg_X1_99 hCK hE hG dX1_holds_281 ?_
                    refine lv_iload_n hx hb dX1_holds_284 rfl (lv_at hl 1 rfl) ?_
                    refine lv_aload_n hx hb dX1_holds_285 rfl (lv_at hl 2 rfl) ?_
                    refine cg_X1_3 hCK hG (r := 19) (Or.inl rfl) dX1_holds_286 ?_
                    refine cg_X1_64 hCK hE hG dX1_holds_289 ?_
                    have hok' := hok
                    unfold okM at hok'
                    rcases hok' with ⟨h1, h2, h3, -⟩ | ⟨h1, h2, h3, -⟩ | ⟨h1, h2, h3, -⟩ | ⟨h1, h2, h3, -⟩ | ⟨h1, h2, h3, -⟩ | ⟨h1, h2, h3, -⟩
                    · have hrc : cC E ad I F S (va_up (va_up Y 3 g) 2 q1) L (4000 + 1000 * ci.toNat + k.toNat) = .inr (9, [.int (iI (F 63 (F 64 ci + k))), .int (iI 0)]) := hmk.trans (by unfold mkE; rw [if_pos h1])
                      refine c_calli (c_runA (n := 3) (C0 := RX10) (b := ad (4000 + 1000 * ci.toNat + k.toNat)) (rest := []) (as := [.ref (ad 2), .int (iI top), .ref (ad 3)]) hCK hE hml (cvdoes0 l adK adV st D E A ad nv I F S (va_up (va_up Y 3 g) 2 q1) L (4000 + 1000 * ci.toNat + k.toNat) hmv (F 63 (F 64 ci + k)) top (by omega) hrc) (g_rec (r := 4000 + 1000 * ci.toNat + k.toNat) (ci := 9) hK hG hmv rfl hrc) q876 q878 q897 q898 q91 q899 q877 (by decide +kernel) ⟨rfl, rfl⟩ hR (by decide) ⟨Nat.zero_le _, Nat.zero_le _⟩ hG hS rfl hl.1 rfl (Nat.le_of_ble_eq_true rfl) dX1_holds_292) hS (fun zz I1 F1 S1 Y1 H locs hpp hG hS => ?_)
                      obtain ⟨hzz, rfl, rfl, rfl, rfl⟩ := hpp
                      have hG : CW D E A ad nv I F S (va_up (va_up Y 3 g) 2 (stpH 0 (F 63 (F 64 ci + k)) g q1 top)) L H := by
                        rw [← up_up (va_up Y 3 g) 2 q1]; exact hG
                      have eT : stpT (F 62 (F 64 ci + k)) top = zz := by rw [← hzz]; rw [h1]
                      have eS : stpH (F 62 (F 64 ci + k)) (F 63 (F 64 ci + k)) (nmS I F (S 19 4) (S 19 5) (S 19 7) (S 19 8) (Y 24) (Y 21)) q1 top = stpH 0 (F 63 (F 64 ci + k)) g q1 top := by rw [h1]; rfl
                      have hz2 : 0 ≤ zz ∧ zz ≤ 40 := by
                        rw [← eT]; unfold stpT
                        split
                        · omega
                        · (try split) <;> omega
                      rw [eT] at hok1 hoh1 heq1 hrun1
                      rw [eS] at heq1
                      rw [Int.add_assoc] at hok1 hrun1
                      refine lv_istore_n (lv' := [(2, .int (iI zz)), (3, .int (iI k)), (0, .ref (ad 19)), (1, .int (iI ci))]) hx hb dX1_holds_295 rfl hl (by decide) rfl (fun ls hl => ?_)
                      refine lv_iinc (v := iI (k + 1)) (lv' := [(3, .int (iI (k + 1))), (2, .int (iI zz)), (0, .ref (ad 19)), (1, .int (iI ci))]) hx hb dX1_holds_296 hl (k := 1) rfl (iI_add _ _) (by decide) rfl (fun ls hl => ?_)
                      refine lv_goto (tgt := 252) hx hb dX1_holds_299 (by decide) ?_
                      exact ih10 zz (k + 1) (va_up (va_up Y 3 g) 2 (stpH 0 (F 63 (F 64 ci + k)) g q1 top)) (by omega) (by omega) (by omega) hz2 (⟨_, _, tp1, rfl, hok1, hoh1, heq1, hrun1⟩) _ _ _ hG hS (lv_sub hl [0, 1, 2, 3] rfl)
                    · have hrc : cC E ad I F S (va_up (va_up Y 3 g) 2 q1) L (4000 + 1000 * ci.toNat + k.toNat) = .inr (9, [.int (iI (F 63 (F 64 ci + k))), .int (iI 1)]) := hmk.trans (by unfold mkE; rw [if_neg (by omega), if_pos h1])
                      refine c_calli (c_runA (n := 3) (C0 := RX10) (b := ad (4000 + 1000 * ci.toNat + k.toNat)) (rest := []) (as := [.ref (ad 2), .int (iI top), .ref (ad 3)]) hCK hE hml (cvdoes1 l adK adV st D E A ad nv I F S (va_up (va_up Y 3 g) 2 q1) L (4000 + 1000 * ci.toNat + k.toNat) hmv (F 63 (F 64 ci + k)) top (by omega) h3 hrc) (g_rec (r := 4000 + 1000 * ci.toNat + k.toNat) (ci := 9) hK hG hmv rfl hrc) q876 q878 q897 q898 q91 q899 q877 (by decide +kernel) ⟨rfl, rfl⟩ hR (by decide) ⟨Nat.zero_le _, Nat.zero_le _⟩ hG hS rfl hl.1 rfl (Nat.le_of_ble_eq_true rfl) dX1_holds_292) hS (fun zz I1 F1 S1 Y1 H locs hpp hG hS => ?_)
                      obtain ⟨hzz, rfl, rfl, rfl, rfl⟩ := hpp
                      have hG : CW D E A ad nv I F S (va_up (va_up Y 3 g) 2 (stpH 1 (F 63 (F 64 ci + k)) g q1 top)) L H := by
                        rw [← up_up (va_up Y 3 g) 2 q1]; exact hG
                      have eT : stpT (F 62 (F 64 ci + k)) top = zz := by rw [← hzz]; rw [h1]
                      have eS : stpH (F 62 (F 64 ci + k)) (F 63 (F 64 ci + k)) (nmS I F (S 19 4) (S 19 5) (S 19 7) (S 19 8) (Y 24) (Y 21)) q1 top = stpH 1 (F 63 (F 64 ci + k)) g q1 top := by rw [h1]; show updZ q1 top ((nmS I F (S 19 4) (S 19 5) (S 19 7) (S 19 8) (Y 24) (Y 21)) (F 63 (F 64 ci + k))) = updZ q1 top (g (F 63 (F 64 ci + k))); rw [hgn _ h3.1 h3.2]
                      have hz2 : 0 ≤ zz ∧ zz ≤ 40 := by
                        rw [← eT]; unfold stpT
                        split
                        · omega
                        · (try split) <;> omega
                      rw [eT] at hok1 hoh1 heq1 hrun1
                      rw [eS] at heq1
                      rw [Int.add_assoc] at hok1 hrun1
                      refine lv_istore_n (lv' := [(2, .int (iI zz)), (3, .int (iI k)), (0, .ref (ad 19)), (1, .int (iI ci))]) hx hb dX1_holds_295 rfl hl (by decide) rfl (fun ls hl => ?_)
                      refine lv_iinc (v := iI (k + 1)) (lv' := [(3, .int (iI (k + 1))), (2, .int (iI zz)), (0, .ref (ad 19)), (1, .int (iI ci))]) hx hb dX1_holds_296 hl (k := 1) rfl (iI_add _ _) (by decide) rfl (fun ls hl => ?_)
                      refine lv_goto (tgt := 252) hx hb dX1_holds_299 (by decide) ?_
                      exact ih10 zz (k + 1) (va_up (va_up Y 3 g) 2 (stpH 1 (F 63 (F 64 ci + k)) g q1 top)) (by omega) (by omega) (by omega) hz2 (⟨_, _, tp1, rfl, hok1, hoh1, heq1, hrun1⟩) _ _ _ hG hS (lv_sub hl [0, 1, 2, 3] rfl)
                    · have hrc : cC E ad I F S (va_up (va_up Y 3 g) 2 q1) L (4000 + 1000 * ci.toNat + k.toNat) = .inr (7, [.int (iI (sgO (F 62 (F 64 ci + k))))]) := hmk.trans (mkE_s (by omega))
                      have ba := hoh (top - 2) (by omega) (by omega)
                      have bb := hoh (top - 1) (by omega) (by omega)
                      have ea := heq (top - 2) (by omega) (by omega)
                      have eb := heq (top - 1) (by omega) (by omega)
                      rw [← ea] at ba
                      rw [← eb] at bb
                      refine c_calli (c_runA (n := 3) (C0 := RX8) (b := ad (4000 + 1000 * ci.toNat + k.toNat)) (rest := []) (as := [.ref (ad 2), .int (iI top), .ref (ad 3)]) hCK hE hml (csdoes l adK adV st D E A ad nv I F S (va_up (va_up Y 3 g) 2 q1) L (4000 + 1000 * ci.toNat + k.toNat) hmv (F 62 (F 64 ci + k)) (F 63 (F 64 ci + k)) top (by omega) (by omega) ba.1 bb.1 (fun q => by omega) hrc) (g_rec (r := 4000 + 1000 * ci.toNat + k.toNat) (ci := 7) hK hG hmv rfl hrc) q876 q878 q879 q880 q85 q881 q877 (by decide +kernel) ⟨rfl, rfl⟩ hR (by decide) ⟨Nat.zero_le _, Nat.zero_le _⟩ hG hS rfl hl.1 rfl (Nat.le_of_ble_eq_true rfl) dX1_holds_292) hS (fun zz I1 F1 S1 Y1 H locs hpp hG hS => ?_)
                      obtain ⟨hzz, rfl, rfl, rfl, rfl⟩ := hpp
                      have hG : CW D E A ad nv I F S (va_up (va_up Y 3 g) 2 (stpH (F 62 (F 64 ci + k)) (F 63 (F 64 ci + k)) g q1 top)) L H := by
                        rw [← up_up (va_up Y 3 g) 2 q1]; exact hG
                      have eT : stpT (F 62 (F 64 ci + k)) top = zz := by rw [← hzz]
                      have eS : stpH (F 62 (F 64 ci + k)) (F 63 (F 64 ci + k)) (nmS I F (S 19 4) (S 19 5) (S 19 7) (S 19 8) (Y 24) (Y 21)) q1 top = stpH (F 62 (F 64 ci + k)) (F 63 (F 64 ci + k)) g q1 top := by unfold stpH; rw [if_neg (by omega), if_neg (by omega), if_neg (by omega), if_neg (by omega), if_neg (by omega)]
                      have hz2 : 0 ≤ zz ∧ zz ≤ 40 := by
                        rw [← eT]; unfold stpT
                        split
                        · omega
                        · (try split) <;> omega
                      rw [eT] at hok1 hoh1 heq1 hrun1
                      rw [eS] at heq1
                      rw [Int.add_assoc] at hok1 hrun1
                      refine lv_istore_n (lv' := [(2, .int (iI zz)), (3, .int (iI k)), (0, .ref (ad 19)), (1, .int (iI ci))]) hx hb dX1_holds_295 rfl hl (by decide) rfl (fun ls hl => ?_)
                      refine lv_iinc (v := iI (k + 1)) (lv' := [(3, .int (iI (k + 1))), (2, .int (iI zz)), (0, .ref (ad 19)), (1, .int (iI ci))]) hx hb dX1_holds_296 hl (k := 1) rfl (iI_add _ _) (by decide) rfl (fun ls hl => ?_)
                      refine lv_goto (tgt := 252) hx hb dX1_holds_299 (by decide) ?_
                      exact ih10 zz (k + 1) (va_up (va_up Y 3 g) 2 (stpH (F 62 (F 64 ci + k)) (F 63 (F 64 ci + k)) g q1 top)) (by omega) (by omega) (by omega) hz2 (⟨_, _, tp1, rfl, hok1, hoh1, heq1, hrun1⟩) _ _ _ hG hS (lv_sub hl [0, 1, 2, 3] rfl)
                    · have hrc : cC E ad I F S (va_up (va_up Y 3 g) 2 q1) L (4000 + 1000 * ci.toNat + k.toNat) = .inr (7, [.int (iI (sgO (F 62 (F 64 ci + k))))]) := hmk.trans (mkE_s (by omega))
                      have ba := hoh (top - 2) (by omega) (by omega)
                      have bb := hoh (top - 1) (by omega) (by omega)
                      have ea := heq (top - 2) (by omega) (by omega)
                      have eb := heq (top - 1) (by omega) (by omega)
                      rw [← ea] at ba
                      rw [← eb] at bb
                      refine c_calli (c_runA (n := 3) (C0 := RX8) (b := ad (4000 + 1000 * ci.toNat + k.toNat)) (rest := []) (as := [.ref (ad 2), .int (iI top), .ref (ad 3)]) hCK hE hml (csdoes l adK adV st D E A ad nv I F S (va_up (va_up Y 3 g) 2 q1) L (4000 + 1000 * ci.toNat + k.toNat) hmv (F 62 (F 64 ci + k)) (F 63 (F 64 ci + k)) top (by omega) (by omega) ba.1 bb.1 (fun q => by omega) hrc) (g_rec (r := 4000 + 1000 * ci.toNat + k.toNat) (ci := 7) hK hG hmv rfl hrc) q876 q878 q879 q880 q85 q881 q877 (by decide +kernel) ⟨rfl, rfl⟩ hR (by decide) ⟨Nat.zero_le _, Nat.zero_le _⟩ hG hS rfl hl.1 rfl (Nat.le_of_ble_eq_true rfl) dX1_holds_292) hS (fun zz I1 F1 S1 Y1 H locs hpp hG hS => ?_)
                      obtain ⟨hzz, rfl, rfl, rfl, rfl⟩ := hpp
                      have hG : CW D E A ad nv I F S (va_up (va_up Y 3 g) 2 (stpH (F 62 (F 64 ci + k)) (F 63 (F 64 ci + k)) g q1 top)) L H := by
                        rw [← up_up (va_up Y 3 g) 2 q1]; exact hG
                      have eT : stpT (F 62 (F 64 ci + k)) top = zz := by rw [← hzz]
                      have eS : stpH (F 62 (F 64 ci + k)) (F 63 (F 64 ci + k)) (nmS I F (S 19 4) (S 19 5) (S 19 7) (S 19 8) (Y 24) (Y 21)) q1 top = stpH (F 62 (F 64 ci + k)) (F 63 (F 64 ci + k)) g q1 top := by unfold stpH; rw [if_neg (by omega), if_neg (by omega), if_neg (by omega), if_neg (by omega), if_neg (by omega)]
                      have hz2 : 0 ≤ zz ∧ zz ≤ 40 := by
                        rw [← eT]; unfold stpT
                        split
                        · omega
                        · (try split) <;> omega
                      rw [eT] at hok1 hoh1 heq1 hrun1
                      rw [eS] at heq1
                      rw [Int.add_assoc] at hok1 hrun1
                      refine lv_istore_n (lv' := [(2, .int (iI zz)), (3, .int (iI k)), (0, .ref (ad 19)), (1, .int (iI ci))]) hx hb dX1_holds_295 rfl hl (by decide) rfl (fun ls hl => ?_)
                      refine lv_iinc (v := iI (k + 1)) (lv' := [(3, .int (iI (k + 1))), (2, .int (iI zz)), (0, .ref (ad 19)), (1, .int (iI ci))]) hx hb dX1_holds_296 hl (k := 1) rfl (iI_add _ _) (by decide) rfl (fun ls hl => ?_)
                      refine lv_goto (tgt := 252) hx hb dX1_holds_299 (by decide) ?_
                      exact ih10 zz (k + 1) (va_up (va_up Y 3 g) 2 (stpH (F 62 (F 64 ci + k)) (F 63 (F 64 ci + k)) g q1 top)) (by omega) (by omega) (by omega) hz2 (⟨_, _, tp1, rfl, hok1, hoh1, heq1, hrun1⟩) _ _ _ hG hS (lv_sub hl [0, 1, 2, 3] rfl)
                    · have hrc : cC E ad I F S (va_up (va_up Y 3 g) 2 q1) L (4000 + 1000 * ci.toNat + k.toNat) = .inr (7, [.int (iI (sgO (F 62 (F 64 ci + k))))]) := hmk.trans (mkE_s (by omega))
                      have ba := hoh (top - 2) (by omega) (by omega)
                      have bb := hoh (top - 1) (by omega) (by omega)
                      have ea := heq (top - 2) (by omega) (by omega)
                      have eb := heq (top - 1) (by omega) (by omega)
                      rw [← ea] at ba
                      rw [← eb] at bb
                      refine c_calli (c_runA (n := 3) (C0 := RX8) (b := ad (4000 + 1000 * ci.toNat + k.toNat)) (rest := []) (as := [.ref (ad 2), .int (iI top), .ref (ad 3)]) hCK hE hml (csdoes l adK adV st D E A ad nv I F S (va_up (va_up Y 3 g) 2 q1) L (4000 + 1000 * ci.toNat + k.toNat) hmv (F 62 (F 64 ci + k)) (F 63 (F 64 ci + k)) top (by omega) (by omega) ba.1 bb.1 (fun q => ⟨ba.2 h3.1, bb.2 h3.2⟩) hrc) (g_rec (r := 4000 + 1000 * ci.toNat + k.toNat) (ci := 7) hK hG hmv rfl hrc) q876 q878 q879 q880 q85 q881 q877 (by decide +kernel) ⟨rfl, rfl⟩ hR (by decide) ⟨Nat.zero_le _, Nat.zero_le _⟩ hG hS rfl hl.1 rfl (Nat.le_of_ble_eq_true rfl) dX1_holds_292) hS (fun zz I1 F1 S1 Y1 H locs hpp hG hS => ?_)
                      obtain ⟨hzz, rfl, rfl, rfl, rfl⟩ := hpp
                      have hG : CW D E A ad nv I F S (va_up (va_up Y 3 g) 2 (stpH (F 62 (F 64 ci + k)) (F 63 (F 64 ci + k)) g q1 top)) L H := by
                        rw [← up_up (va_up Y 3 g) 2 q1]; exact hG
                      have eT : stpT (F 62 (F 64 ci + k)) top = zz := by rw [← hzz]
                      have eS : stpH (F 62 (F 64 ci + k)) (F 63 (F 64 ci + k)) (nmS I F (S 19 4) (S 19 5) (S 19 7) (S 19 8) (Y 24) (Y 21)) q1 top = stpH (F 62 (F 64 ci + k)) (F 63 (F 64 ci + k)) g q1 top := by unfold stpH; rw [if_neg (by omega), if_neg (by omega), if_neg (by omega), if_neg (by omega), if_neg (by omega)]
                      have hz2 : 0 ≤ zz ∧ zz ≤ 40 := by
                        rw [← eT]; unfold stpT
                        split
                        · omega
                        · (try split) <;> omega
                      rw [eT] at hok1 hoh1 heq1 hrun1
                      rw [eS] at heq1
                      rw [Int.add_assoc] at hok1 hrun1
                      refine lv_istore_n (lv' := [(2, .int (iI zz)), (3, .int (iI k)), (0, .ref (ad 19)), (1, .int (iI ci))]) hx hb dX1_holds_295 rfl hl (by decide) rfl (fun ls hl => ?_)
                      refine lv_iinc (v := iI (k + 1)) (lv' := [(3, .int (iI (k + 1))), (2, .int (iI zz)), (0, .ref (ad 19)), (1, .int (iI ci))]) hx hb dX1_holds_296 hl (k := 1) rfl (iI_add _ _) (by decide) rfl (fun ls hl => ?_)
                      refine lv_goto (tgt := 252) hx hb dX1_holds_299 (by decide) ?_
                      exact ih10 zz (k + 1) (va_up (va_up Y 3 g) 2 (stpH (F 62 (F 64 ci + k)) (F 63 (F 64 ci + k)) g q1 top)) (by omega) (by omega) (by omega) hz2 (⟨_, _, tp1, rfl, hok1, hoh1, heq1, hrun1⟩) _ _ _ hG hS (lv_sub hl [0, 1, 2, 3] rfl)
                    · have hrc : cC E ad I F S (va_up (va_up Y 3 g) 2 q1) L (4000 + 1000 * ci.toNat + k.toNat) = .inr (7, [.int (iI 33)]) := hmk.trans (by rw [h1]; exact mkE_s (by decide))
                      refine c_calli (c_runA (n := 3) (C0 := RX8) (b := ad (4000 + 1000 * ci.toNat + k.toNat)) (rest := []) (as := [.ref (ad 2), .int (iI top), .ref (ad 3)]) hCK hE hml (csnot l adK adV st D E A ad nv I F S (va_up (va_up Y 3 g) 2 q1) L (4000 + 1000 * ci.toNat + k.toNat) hmv (F 63 (F 64 ci + k)) top (by omega) hrc) (g_rec (r := 4000 + 1000 * ci.toNat + k.toNat) (ci := 7) hK hG hmv rfl hrc) q876 q878 q879 q880 q85 q881 q877 (by decide +kernel) ⟨rfl, rfl⟩ hR (by decide) ⟨Nat.zero_le _, Nat.zero_le _⟩ hG hS rfl hl.1 rfl (Nat.le_of_ble_eq_true rfl) dX1_holds_292) hS (fun zz I1 F1 S1 Y1 H locs hpp hG hS => ?_)
                      obtain ⟨hzz, rfl, rfl, rfl, rfl⟩ := hpp
                      have hG : CW D E A ad nv I F S (va_up (va_up Y 3 g) 2 (stpH 11 (F 63 (F 64 ci + k)) g q1 top)) L H := by
                        rw [← up_up (va_up Y 3 g) 2 q1]; exact hG
                      have eT : stpT (F 62 (F 64 ci + k)) top = zz := by rw [← hzz]; rw [h1]
                      have eS : stpH (F 62 (F 64 ci + k)) (F 63 (F 64 ci + k)) (nmS I F (S 19 4) (S 19 5) (S 19 7) (S 19 8) (Y 24) (Y 21)) q1 top = stpH 11 (F 63 (F 64 ci + k)) g q1 top := by rw [h1]; rfl
                      have hz2 : 0 ≤ zz ∧ zz ≤ 40 := by
                        rw [← eT]; unfold stpT
                        split
                        · omega
                        · (try split) <;> omega
                      rw [eT] at hok1 hoh1 heq1 hrun1
                      rw [eS] at heq1
                      rw [Int.add_assoc] at hok1 hrun1
                      refine lv_istore_n (lv' := [(2, .int (iI zz)), (3, .int (iI k)), (0, .ref (ad 19)), (1, .int (iI ci))]) hx hb dX1_holds_295 rfl hl (by decide) rfl (fun ls hl => ?_)
                      refine lv_iinc (v := iI (k + 1)) (lv' := [(3, .int (iI (k + 1))), (2, .int (iI zz)), (0, .ref (ad 19)), (1, .int (iI ci))]) hx hb dX1_holds_296 hl (k := 1) rfl (iI_add _ _) (by decide) rfl (fun ls hl => ?_)
                      refine lv_goto (tgt := 252) hx hb dX1_holds_299 (by decide) ?_
                      exact ih10 zz (k + 1) (va_up (va_up Y 3 g) 2 (stpH 11 (F 63 (F 64 ci + k)) g q1 top)) (by omega) (by omega) (by omega) hz2 (⟨_, _, tp1, rfl, hok1, hoh1, heq1, hrun1⟩) _ _ _ hG hS (lv_sub hl [0, 1, 2, 3] rfl)
              exact loop252_9 ((F 65 ci - F 64 ci - 0 : Int).toNat + 1) 0 0 (va_up (va_up Y 3 g) 2 (Y 2)) (by omega) (by omega) (by omega) (by omega) (⟨Y 2, fun _ => 0, fun _ => 0, rfl, by rw [Int.add_zero]; exact hok, fun i h0 h1 => by omega, fun i h0 h1 => by omega, by rw [Int.add_zero]⟩) _ _ _ hG hS (lv_sub hl [0, 1, 2, 3] rfl)
            · have b9 := a9 j (by omega) (by omega)
              have b6 := a6 j (by omega) (by omega)
              have bp := gp0 j (by omega) (by omega)
              refine lv_aload_n hx hb dX1_holds_154 rfl (lv_at hl 1 rfl) ?_
              refine cg_X1_3 hCK hG (r := 19) (Or.inl rfl) dX1_holds_155 ?_
              refine cg_X1_64 hCK hE hG dX1_holds_158 ?_
              refine r_bipush hx hb dX1_holds_161 (by decide) ?_
              refine lv_dup2_11 hx hb dX1_holds_163 rfl rfl ?_
              refine cl_3 (v := g 6) hCK hG (by decide) rfl dX1_holds_164 ?_
              refine lv_aload_n hx hb dX1_holds_165 rfl (lv_at hl 1 rfl) ?_
              refine cg_X1_3 hCK hG (r := 19) (Or.inl rfl) dX1_holds_166 ?_
              refine cg_X1_73 hCK hE hG dX1_holds_169 ?_
              refine lv_iload_n hx hb dX1_holds_172 rfl (lv_at hl 0 rfl) ?_
              refine j_callr (j_runV (n := 1) (C := RJ2) (b := ad 12) (rest := [.int (iI (g 6)), .int (iI 6), .ref (ad 3)]) (as := [.int (iI j)]) hx hb hml hown hts (lgt_12 l adK adV st D E A ad nv I F S (va_up Y 3 g) L j (by omega) (by omega) (by omega)) GB.blind (GB.at hK hG hE hS) (g_rec (r := 12) (ci := 10) hK hG (Or.inl (by decide)) rfl (cC_l (by decide))) q860 q620 q621 q71 q622 (by decide +kernel) ⟨rfl, rfl⟩ hR (by decide) ⟨Nat.zero_le _, Nat.zero_le _⟩ rfl hl.1 rfl (Nat.le_of_ble_eq_true rfl) dX1_holds_173) ?_
              refine c_cast (r := 3200 + j.toNat) (ci := 4) hCK hG (by have := (show (0 : Int) ≤ j ∧ j < 100 by omega); unfold cV; omega) rfl (cC_wt (by have := (show (0 : Int) ≤ j ∧ j < 100 by omega); omega)) q861 dX1_holds_176 ?_
              refine cg_X1_89 (v := F 9 j) (z := j) hCK hE hG (by omega) rfl dX1_holds_179 ?_
              have jn13 : W p l e R s m args below meth c H locs 0 0 Q (F0 m 216 ls [.int (iI (if F 9 j = 0 ∧ Y 21 j ≠ F 6 j then 1 else 0)), .int (iI (g 6)), .int (iI 6), .ref (ad 3)]) := by
                refine r_iadd hx hb dX1_holds_216 ?_
                refine cs_3 (z := 6) (v := (g 6) + (if F 9 j = 0 ∧ Y 21 j ≠ F 6 j then 1 else 0)) hCK hG hS (by decide) dX1_holds_217 (fun H locs hG hS => ?_)
                have hG : CW D E A ad nv I F S (va_up Y 3 (updZ g 6 ((g 6) + (if F 9 j = 0 ∧ Y 21 j ≠ F 6 j then 1 else 0)))) L H := by
                  have eY : va_up Y 3 (updZ g 6 ((g 6) + (if F 9 j = 0 ∧ Y 21 j ≠ F 6 j then 1 else 0))) = va_up (va_up Y 3 g) 3 (updZ ((va_up Y 3 g) 3) 6 ((g 6) + (if F 9 j = 0 ∧ Y 21 j ≠ F 6 j then 1 else 0))) := by
                    funext i
                    by_cases h1 : i = 3
                    · subst h1; simp [va_up]
                    · simp [va_up, h1]
                  rw [eY]; exact hG
                refine lv_iinc (v := iI (j + 1)) (lv' := [(2, .int (iI (j + 1))), (0, .ref (ad 19)), (1, .int (iI ci))]) hx hb dX1_holds_218 hl (k := 0) rfl (iI_add _ _) (by decide) rfl (fun ls hl => ?_)
                refine lv_goto (tgt := 140) hx hb dX1_holds_221 (by decide) ?_
                exact ih6 (j + 1) (va_up Y 3 (updZ g 6 ((g 6) + (if F 9 j = 0 ∧ Y 21 j ≠ F 6 j then 1 else 0)))) (by omega) (by omega) (by omega) (⟨_, rfl, fun i i0 i1 => by rw [updZ_n (by omega)]; exact hg i i0 i1, by rw [updZ_n (by decide)]; exact g5, by rw [updZ_s, g6, sm_s _ hj0]⟩) _ _ _ hG hS (lv_sub hl [0, 1, 2] rfl)
              refine r_if_ne (tgt := 215) hx hb dX1_holds_182 (by decide) (by omega) (fun c14 => ?_) (fun c14 => ?_)
              · refine r_iconst hx hb dX1_holds_215 ?_
                rw [if_neg (by omega)] at jn13
                exact jn13
              · refine lv_aload_n hx hb dX1_holds_185 rfl (lv_at hl 1 rfl) ?_
                refine cg_X1_15 hCK hG (r := 19) (Or.inl rfl) dX1_holds_186 ?_
                refine W.eq (g2 := F0 m 189 ls [.ref (ad 21), .int (iI (g 6)), .int (iI 6), .ref (ad 3)]) rfl ?_
                refine lv_iload_n hx hb dX1_holds_189 rfl (lv_at hl 0 rfl) ?_
                refine cl_s0 (v := (Y 21) j) (r := 19) hCK hG (Or.inl rfl) (by omega) rfl dX1_holds_190 ?_
                refine lv_aload_n hx hb dX1_holds_191 rfl (lv_at hl 1 rfl) ?_
                refine cg_X1_3 hCK hG (r := 19) (Or.inl rfl) dX1_holds_192 ?_
                refine cg_X1_73 hCK hE hG dX1_holds_195 ?_
                refine lv_iload_n hx hb dX1_holds_198 rfl (lv_at hl 0 rfl) ?_
                refine j_callr (j_runV (n := 1) (C := RJ2) (b := ad 12) (rest := [.int (iI ((Y 21) j)), .int (iI (g 6)), .int (iI 6), .ref (ad 3)]) (as := [.int (iI j)]) hx hb hml hown hts (lgt_12 l adK adV st D E A ad nv I F S (va_up Y 3 g) L j (by omega) (by omega) (by omega)) GB.blind (GB.at hK hG hE hS) (g_rec (r := 12) (ci := 10) hK hG (Or.inl (by decide)) rfl (cC_l (by decide))) q860 q620 q621 q71 q622 (by decide +kernel) ⟨rfl, rfl⟩ hR (by decide) ⟨Nat.zero_le _, Nat.zero_le _⟩ rfl hl.1 rfl (Nat.le_of_ble_eq_true rfl) dX1_holds_199) ?_
                refine c_cast (r := 3200 + j.toNat) (ci := 4) hCK hG (by have := (show (0 : Int) ≤ j ∧ j < 100 by omega); unfold cV; omega) rfl (cC_wt (by have := (show (0 : Int) ≤ j ∧ j < 100 by omega); omega)) q861 dX1_holds_202 ?_
                refine cg_X1_92 (v := F 6 j) (z := j) hCK hE hG (by omega) rfl dX1_holds_205 ?_
                refine r_icmp_eq (tgt := 215) hx hb dX1_holds_208 (by decide) (by omega) (by omega) (fun c15 => ?_) (fun c15 => ?_)
                · refine r_iconst hx hb dX1_holds_215 ?_
                  rw [if_neg (by omega)] at jn13
                  exact jn13
                · refine r_iconst hx hb dX1_holds_211 ?_
                  refine lv_goto (tgt := 216) hx hb dX1_holds_212 (by decide) ?_
                  rw [if_pos (by omega)] at jn13
                  exact jn13
        exact loop140_5 ((I 4 - 0 : Int).toNat + 1) 0 (va_up Y 3 (updZ g 6 0)) (by omega) (by omega) (by omega) (⟨_, rfl, fun i i0 i1 => by rw [updZ_n (by omega)]; exact hg i i0 i1, by rw [updZ_n (by decide), g5, ek]; rfl, by rw [updZ_s]; rfl⟩) _ _ _ hG hS (lv_sub hl [0, 1, 2] rfl)
      · have bw := gw0 k (by omega) (by omega)
        refine lv_aload_n hx hb dX1_holds_95 rfl (lv_at hl 1 rfl) ?_
        refine cg_X1_3 hCK hG (r := 19) (Or.inl rfl) dX1_holds_96 ?_
        refine cg_X1_64 hCK hE hG dX1_holds_99 ?_
        refine r_iconst hx hb dX1_holds_102 ?_
        refine lv_dup2_11 hx hb dX1_holds_103 rfl rfl ?_
        refine cl_3 (v := g 5) hCK hG (by decide) rfl dX1_holds_104 ?_
        refine lv_aload_n hx hb dX1_holds_105 rfl (lv_at hl 1 rfl) ?_
        refine cg_X1_25 hCK hG (r := 19) (Or.inl rfl) dX1_holds_106 ?_
        refine W.eq (g2 := F0 m 109 ls [.ref (ad 24), .int (iI (g 5)), .int (iI 5), .ref (ad 3)]) rfl ?_
        refine lv_iload_n hx hb dX1_holds_109 rfl (lv_at hl 0 rfl) ?_
        refine cl_s3 (v := (Y 24) k) (r := 19) hCK hG (Or.inl rfl) (by omega) rfl dX1_holds_110 ?_
        have jn16 : W p l e R s m args below meth c H locs 0 0 Q (F0 m 119 ls [.int (iI (if Y 24 k = 0 then 0 else 1)), .int (iI (g 5)), .int (iI 5), .ref (ad 3)]) := by
          refine r_iadd hx hb dX1_holds_119 ?_
          refine cs_3 (z := 5) (v := (g 5) + (if Y 24 k = 0 then 0 else 1)) hCK hG hS (by decide) dX1_holds_120 (fun H locs hG hS => ?_)
          have hG : CW D E A ad nv I F S (va_up Y 3 (updZ g 5 ((g 5) + (if Y 24 k = 0 then 0 else 1)))) L H := by
            have eY : va_up Y 3 (updZ g 5 ((g 5) + (if Y 24 k = 0 then 0 else 1))) = va_up (va_up Y 3 g) 3 (updZ ((va_up Y 3 g) 3) 5 ((g 5) + (if Y 24 k = 0 then 0 else 1))) := by
              funext i
              by_cases h1 : i = 3
              · subst h1; simp [va_up]
              · simp [va_up, h1]
            rw [eY]; exact hG
          refine lv_iinc (v := iI (k + 1)) (lv' := [(2, .int (iI (k + 1))), (0, .ref (ad 19)), (1, .int (iI ci))]) hx hb dX1_holds_121 hl (k := 0) rfl (iI_add _ _) (by decide) rfl (fun ls hl => ?_)
          refine lv_goto (tgt := 84) hx hb dX1_holds_124 (by decide) ?_
          exact ih2 (k + 1) (va_up Y 3 (updZ g 5 ((g 5) + (if Y 24 k = 0 then 0 else 1)))) (by omega) (by omega) (by omega) (⟨_, rfl, fun i i0 i1 => by rw [updZ_n (by omega)]; exact hg i i0 i1, by rw [updZ_s, g5, sm_s _ hk0]⟩) _ _ _ hG hS (lv_sub hl [0, 1, 2] rfl)
        refine r_if_eq (tgt := 118) hx hb dX1_holds_111 (by decide) (by omega) (fun c17 => ?_) (fun c17 => ?_)
        · refine r_iconst hx hb dX1_holds_118 ?_
          rw [if_pos (by omega)] at jn16
          exact jn16
        · refine r_iconst hx hb dX1_holds_114 ?_
          refine lv_goto (tgt := 119) hx hb dX1_holds_115 (by decide) ?_
          rw [if_neg (by omega)] at jn16
          exact jn16
  exact loop84_1 ((I 15 - 0 : Int).toNat + 1) 0 (va_up Y 3 (updZ (updZ (updZ (updZ (updZ (updZ (Y 3) 0 (S 19 4)) 1 (S 19 5)) 2 (S 19 7)) 3 (S 19 8)) 4 (seaS (I 18) (F 19) (F 20) (F 21) (S 19 7))) 5 0)) (by omega) (by omega) (by omega) (⟨_, rfl, fun i i0 i1 => by rcases (show i = 0 ∨ i = 1 ∨ i = 2 ∨ i = 3 ∨ i = 4 by omega) with rfl | rfl | rfl | rfl | rfl <;> rfl, rfl⟩) _ _ _ hG hS (lv_sub hl [0, 1, 2] rfl)
set_option maxHeartbeats 4000000 in
theorem cholds_20 (l : Launch) (adK adV st : Nat → Nat) (D : va_G) (E : Nat → ClassId) (A : Nat → Prop) (ad nv : Nat → Nat) (I : Nat → Int) (F : Nat → Int → Int) (S : Nat → Nat → Int) (Y : Nat → Int → Int) (L : Nat → Nat) (ci : Int) (hc : 0 ≤ ci ∧ ci ≤ 1) (hn : cOK nv I L) (gs0 : gSea I F) (gl0 : gLoad I F) (gm0 : gMark I F) (gr0 : gRule F) (hru : S 0 2 = 0 → F 64 0 = -1 ∧ F 64 1 = -1) (b28 : -80 ≤ S 20 4 ∧ S 20 4 ≤ 80) (b29 : -30 ≤ S 20 5 ∧ S 20 5 ≤ 30) (ht : 0 ≤ S 20 7 ∧ S 20 7 ≤ 1000) (b30 : 0 ≤ S 20 8 ∧ S 20 8 ≤ 100000) (gp0 : Bd (Y 25) 12 (-19) 19) (gw0 : Bd (Y 28) 6 0 1) : CM l yX1_holds cX1_holds 4 (some .boolean) (mrm 5) adK adV st D E A ad nv [.ref (ad 20), .int (iI ci)] I F S Y L (CQi D E A ad nv L (fun z I1 F1 S1 Y1 => soZ F ci (nmS I F (S 20 4) (S 20 5) (S 20 7) (S 20 8) (Y 28) (Y 25)) = z ∧ I = I1 ∧ F = F1 ∧ S = S1 ∧ ∃ g g1, va_up (va_up Y 3 g) 2 g1 = Y1)) := by
  refine c_start (by decide) rfl (Nat.le_of_ble_eq_true rfl) ?_
  intro p e R s m args below meth c ls Q hR hQ hCK hml hr hlk hG hS hE hl
  have hx := hCK.1
  have hb := hCK.2.1
  have hown := hCK.2.2.1
  have hts := hCK.2.2.2.1
  have hK := hCK.2.2.2.2
  have hl : lv_has ls 4 [(0, .ref (ad 20)), (1, .int (iI ci))] := hl
  obtain ⟨⟨n0, n1, n2, n3⟩, ⟨l0, l1, l2, l3⟩, c0, c1, c2, c3⟩ := id hn
  obtain ⟨i4, a5, a6, a7, a8, a9, i10, a11, a12, a13, a14, a14h⟩ := id gl0
  obtain ⟨i15, a16, a17⟩ := id gm0
  have hnb := nmS_bd (wet := Y 28) (pl := Y 25) b28 b29 ht b30 gs0 i15 i4
  refine lv_aload_n hx hb dX1_holds_0 rfl (lv_at hl 0 rfl) ?_
  refine cg_X1_3 hCK hG (r := 20) (Or.inr rfl) dX1_holds_1 ?_
  refine cg_X1_64 hCK hE hG dX1_holds_4 ?_
  refine r_iconst hx hb dX1_holds_7 ?_
  refine lv_aload_n hx hb dX1_holds_8 rfl (lv_at hl 0 rfl) ?_
  refine cg_X1_35 (v := S 20 4) hCK hG (r := 20) (Or.inr rfl) rfl dX1_holds_9 ?_
  refine cs_3 (z := 0) (v := S 20 4) hCK hG hS (by decide) dX1_holds_12 (fun H locs hG hS => ?_)
  have hG : CW D E A ad nv I F S (va_up Y 3 (updZ (Y 3) 0 (S 20 4))) L H := hG
  refine lv_aload_n hx hb dX1_holds_13 rfl (lv_at hl 0 rfl) ?_
  refine cg_X1_3 hCK hG (r := 20) (Or.inr rfl) dX1_holds_14 ?_
  refine cg_X1_64 hCK hE hG dX1_holds_17 ?_
  refine r_iconst hx hb dX1_holds_20 ?_
  refine lv_aload_n hx hb dX1_holds_21 rfl (lv_at hl 0 rfl) ?_
  refine cg_X1_39 (v := S 20 5) hCK hG (r := 20) (Or.inr rfl) rfl dX1_holds_22 ?_
  refine cs_3 (z := 1) (v := S 20 5) hCK hG hS (by decide) dX1_holds_25 (fun H locs hG hS => ?_)
  have hG : CW D E A ad nv I F S (va_up Y 3 (updZ (updZ (Y 3) 0 (S 20 4)) 1 (S 20 5))) L H := by
    have eY : va_up Y 3 (updZ (updZ (Y 3) 0 (S 20 4)) 1 (S 20 5)) = va_up (va_up Y 3 (updZ (Y 3) 0 (S 20 4))) 3 (updZ ((va_up Y 3 (updZ (Y 3) 0 (S 20 4))) 3) 1 (S 20 5)) := by
      funext i
      by_cases h1 : i = 3
      · subst h1; simp [va_up]
      · simp [va_up, h1]
    rw [eY]; exact hG
  refine lv_aload_n hx hb dX1_holds_26 rfl (lv_at hl 0 rfl) ?_
  refine cg_X1_3 hCK hG (r := 20) (Or.inr rfl) dX1_holds_27 ?_
  refine cg_X1_64 hCK hE hG dX1_holds_30 ?_
  refine r_iconst hx hb dX1_holds_33 ?_
  refine lv_aload_n hx hb dX1_holds_34 rfl (lv_at hl 0 rfl) ?_
  refine cg_X1_42 (v := S 20 7) hCK hG (r := 20) (Or.inr rfl) rfl dX1_holds_35 ?_
  refine cs_3 (z := 2) (v := S 20 7) hCK hG hS (by decide) dX1_holds_38 (fun H locs hG hS => ?_)
  have hG : CW D E A ad nv I F S (va_up Y 3 (updZ (updZ (updZ (Y 3) 0 (S 20 4)) 1 (S 20 5)) 2 (S 20 7))) L H := by
    have eY : va_up Y 3 (updZ (updZ (updZ (Y 3) 0 (S 20 4)) 1 (S 20 5)) 2 (S 20 7)) = va_up (va_up Y 3 (updZ (updZ (Y 3) 0 (S 20 4)) 1 (S 20 5))) 3 (updZ ((va_up Y 3 (updZ (updZ (Y 3) 0 (S 20 4)) 1 (S 20 5))) 3) 2 (S 20 7)) := by
      funext i
      by_cases h1 : i = 3
      · subst h1; simp [va_up]
      · simp [va_up, h1]
    rw [eY]; exact hG
  refine lv_aload_n hx hb dX1_holds_39 rfl (lv_at hl 0 rfl) ?_
  refine cg_X1_3 hCK hG (r := 20) (Or.inr rfl) dX1_holds_40 ?_
  refine cg_X1_64 hCK hE hG dX1_holds_43 ?_
  refine r_iconst hx hb dX1_holds_46 ?_
  refine lv_aload_n hx hb dX1_holds_47 rfl (lv_at hl 0 rfl) ?_
  refine cg_X1_45 (v := S 20 8) hCK hG (r := 20) (Or.inr rfl) rfl dX1_holds_48 ?_
  refine cs_3 (z := 3) (v := S 20 8) hCK hG hS (by decide) dX1_holds_51 (fun H locs hG hS => ?_)
  have hG : CW D E A ad nv I F S (va_up Y 3 (updZ (updZ (updZ (updZ (Y 3) 0 (S 20 4)) 1 (S 20 5)) 2 (S 20 7)) 3 (S 20 8))) L H := by
    have eY : va_up Y 3 (updZ (updZ (updZ (updZ (Y 3) 0 (S 20 4)) 1 (S 20 5)) 2 (S 20 7)) 3 (S 20 8)) = va_up (va_up Y 3 (updZ (updZ (updZ (Y 3) 0 (S 20 4)) 1 (S 20 5)) 2 (S 20 7))) 3 (updZ ((va_up Y 3 (updZ (updZ (updZ (Y 3) 0 (S 20 4)) 1 (S 20 5)) 2 (S 20 7))) 3) 3 (S 20 8)) := by
      funext i
      by_cases h1 : i = 3
      · subst h1; simp [va_up]
      · simp [va_up, h1]
    rw [eY]; exact hG
  refine lv_aload_n hx hb dX1_holds_52 rfl (lv_at hl 0 rfl) ?_
  refine cg_X1_3 hCK hG (r := 20) (Or.inr rfl) dX1_holds_53 ?_
  refine cg_X1_64 hCK hE hG dX1_holds_56 ?_
  refine r_iconst hx hb dX1_holds_59 ?_
  refine lv_aload_n hx hb dX1_holds_60 rfl (lv_at hl 0 rfl) ?_
  refine cg_X1_3 hCK hG (r := 20) (Or.inr rfl) dX1_holds_61 ?_
  refine lv_aload_n hx hb dX1_holds_64 rfl (lv_at hl 0 rfl) ?_
  refine cg_X1_42 (v := S 20 7) hCK hG (r := 20) (Or.inr rfl) rfl dX1_holds_65 ?_
  refine s_calli (j_runVN (n := 1) (C0 := RX0) (b := ad 0) (rest := [.int (iI 4), .ref (ad 3)]) (as := [.int (iI (S 20 7))]) hx hb hml hown hts hE (cseaAt l adK adV st D E A ad nv I F S (va_up Y 3 (updZ (updZ (updZ (updZ (Y 3) 0 (S 20 4)) 1 (S 20 5)) 2 (S 20 7)) 3 (S 20 8))) L (S 20 7) (by omega) hn gs0) GB.blind (GB.at hK hG hE hS) (g_rec (r := 0) (ci := 0) hK hG (Or.inl (by decide)) rfl cC_0) q871 q824 qs23 q68 q825 (by decide +kernel) ⟨rfl, rfl⟩ hR (by decide) ⟨Nat.zero_le _, Nat.zero_le _⟩ rfl hl.1 rfl (Nat.le_of_ble_eq_true rfl) dX1_holds_68) ?_
  refine cs_3 (z := 4) (v := seaS (I 18) (F 19) (F 20) (F 21) (S 20 7)) hCK hG hS (by decide) dX1_holds_71 (fun H locs hG hS => ?_)
  have hG : CW D E A ad nv I F S (va_up Y 3 (updZ (updZ (updZ (updZ (updZ (Y 3) 0 (S 20 4)) 1 (S 20 5)) 2 (S 20 7)) 3 (S 20 8)) 4 (seaS (I 18) (F 19) (F 20) (F 21) (S 20 7)))) L H := by
    have eY : va_up Y 3 (updZ (updZ (updZ (updZ (updZ (Y 3) 0 (S 20 4)) 1 (S 20 5)) 2 (S 20 7)) 3 (S 20 8)) 4 (seaS (I 18) (F 19) (F 20) (F 21) (S 20 7))) = va_up (va_up Y 3 (updZ (updZ (updZ (updZ (Y 3) 0 (S 20 4)) 1 (S 20 5)) 2 (S 20 7)) 3 (S 20 8))) 3 (updZ ((va_up Y 3 (updZ (updZ (updZ (updZ (Y 3) 0 (S 20 4)) 1 (S 20 5)) 2 (S 20 7)) 3 (S 20 8))) 3) 4 (seaS (I 18) (F 19) (F 20) (F 21) (S 20 7))) := by
      funext i
      by_cases h1 : i = 3
      · subst h1; simp [va_up]
      · simp [va_up, h1]
    rw [eY]; exact hG
  refine lv_aload_n hx hb dX1_holds_72 rfl (lv_at hl 0 rfl) ?_
  refine cg_X1_3 hCK hG (r := 20) (Or.inr rfl) dX1_holds_73 ?_
  refine cg_X1_64 hCK hE hG dX1_holds_76 ?_
  refine r_iconst hx hb dX1_holds_79 ?_
  refine r_iconst hx hb dX1_holds_80 ?_
  refine cs_3 (z := 5) (v := 0) hCK hG hS (by decide) dX1_holds_81 (fun H locs hG hS => ?_)
  have hG : CW D E A ad nv I F S (va_up Y 3 (updZ (updZ (updZ (updZ (updZ (updZ (Y 3) 0 (S 20 4)) 1 (S 20 5)) 2 (S 20 7)) 3 (S 20 8)) 4 (seaS (I 18) (F 19) (F 20) (F 21) (S 20 7))) 5 0)) L H := by
    have eY : va_up Y 3 (updZ (updZ (updZ (updZ (updZ (updZ (Y 3) 0 (S 20 4)) 1 (S 20 5)) 2 (S 20 7)) 3 (S 20 8)) 4 (seaS (I 18) (F 19) (F 20) (F 21) (S 20 7))) 5 0) = va_up (va_up Y 3 (updZ (updZ (updZ (updZ (updZ (Y 3) 0 (S 20 4)) 1 (S 20 5)) 2 (S 20 7)) 3 (S 20 8)) 4 (seaS (I 18) (F 19) (F 20) (F 21) (S 20 7)))) 3 (updZ ((va_up Y 3 (updZ (updZ (updZ (updZ (updZ (Y 3) 0 (S 20 4)) 1 (S 20 5)) 2 (S 20 7)) 3 (S 20 8)) 4 (seaS (I 18) (F 19) (F 20) (F 21) (S 20 7)))) 3) 5 0) := by
      funext i
      by_cases h1 : i = 3
      · subst h1; simp [va_up]
      · simp [va_up, h1]
    rw [eY]; exact hG
  refine r_iconst hx hb dX1_holds_82 ?_
  refine lv_istore_n (lv' := [(2, .int (iI 0)), (0, .ref (ad 20)), (1, .int (iI ci))]) hx hb dX1_holds_83 rfl hl (by decide) rfl (fun ls hl => ?_)
  have loop84_1 : ∀ (n : Nat) (k : Int) (Y1 : Nat → Int → Int), I 15 - k < (n : Int) → 0 ≤ k → k ≤ I 15 → (∃ g, Y1 = va_up Y 3 g ∧ (∀ i, 0 ≤ i → i < 5 → g i = (nmS I F (S 20 4) (S 20 5) (S 20 7) (S 20 8) (Y 28) (Y 25)) i) ∧ g 5 = sm (fun m => if Y 28 m = 0 then 0 else 1) k) → ∀ (H : Heap) (locs : List Loc) (ls : Array Slot), CW D E A ad nv I F S Y1 L H → va_S A s.heap H locs → lv_has ls 4 [(2, .int (iI k)), (0, .ref (ad 20)), (1, .int (iI ci))] → W p l e R s m args below meth c H locs 0 0 Q (F0 m 84 ls []) := by
    intro n
    induction n with
    | zero => intro k Y1 hn3 hk0 hk1 eY; exfalso; omega
    | succ n ih2 =>
      intro k Y1 hn3 hk0 hk1 eY H locs ls hG hS hl
      obtain ⟨g, rfl, hg, g5⟩ := eY
      refine lv_iload_n hx hb dX1_holds_84 rfl (lv_at hl 0 rfl) ?_
      refine lv_aload_n hx hb dX1_holds_85 rfl (lv_at hl 1 rfl) ?_
      refine cg_X1_3 hCK hG (r := 20) (Or.inr rfl) dX1_holds_86 ?_
      refine cg_X1_70 (v := I 15) hCK hE hG rfl dX1_holds_89 ?_
      refine r_icmp_ge (tgt := 127) hx hb dX1_holds_92 (by decide) (by omega) (by omega) (fun c4 => ?_) (fun c4 => ?_)
      · have ek : k = I 15 := by omega
        refine lv_aload_n hx hb dX1_holds_127 rfl (lv_at hl 1 rfl) ?_
        refine cg_X1_3 hCK hG (r := 20) (Or.inr rfl) dX1_holds_128 ?_
        refine cg_X1_64 hCK hE hG dX1_holds_131 ?_
        refine r_bipush hx hb dX1_holds_134 (by decide) ?_
        refine r_iconst hx hb dX1_holds_136 ?_
        refine cs_3 (z := 6) (v := 0) hCK hG hS (by decide) dX1_holds_137 (fun H locs hG hS => ?_)
        have hG : CW D E A ad nv I F S (va_up Y 3 (updZ g 6 0)) L H := by
          have eY : va_up Y 3 (updZ g 6 0) = va_up (va_up Y 3 g) 3 (updZ ((va_up Y 3 g) 3) 6 0) := by
            funext i
            by_cases h1 : i = 3
            · subst h1; simp [va_up]
            · simp [va_up, h1]
          rw [eY]; exact hG
        refine r_iconst hx hb dX1_holds_138 ?_
        refine lv_istore_n (lv' := [(2, .int (iI 0)), (0, .ref (ad 20)), (1, .int (iI ci))]) hx hb dX1_holds_139 rfl hl (by decide) rfl (fun ls hl => ?_)
        have loop140_5 : ∀ (n : Nat) (j : Int) (Y1 : Nat → Int → Int), I 4 - j < (n : Int) → 0 ≤ j → j ≤ I 4 → (∃ g, Y1 = va_up Y 3 g ∧ (∀ i, 0 ≤ i → i < 5 → g i = (nmS I F (S 20 4) (S 20 5) (S 20 7) (S 20 8) (Y 28) (Y 25)) i) ∧ g 5 = (nmS I F (S 20 4) (S 20 5) (S 20 7) (S 20 8) (Y 28) (Y 25)) 5 ∧ g 6 = sm (fun w => if F 9 w = 0 ∧ Y 25 w ≠ F 6 w then 1 else 0) j) → ∀ (H : Heap) (locs : List Loc) (ls : Array Slot), CW D E A ad nv I F S Y1 L H → va_S A s.heap H locs → lv_has ls 4 [(2, .int (iI j)), (0, .ref (ad 20)), (1, .int (iI ci))] → W p l e R s m args below meth c H locs 0 0 Q (F0 m 140 ls []) := by
          intro n
          induction n with
          | zero => intro j Y1 hn7 hj0 hj1 eY; exfalso; omega
          | succ n ih6 =>
            intro j Y1 hn7 hj0 hj1 eY H locs ls hG hS hl
            obtain ⟨g, rfl, hg, g5, g6⟩ := eY
            refine lv_iload_n hx hb dX1_holds_140 rfl (lv_at hl 0 rfl) ?_
            refine lv_aload_n hx hb dX1_holds_141 rfl (lv_at hl 1 rfl) ?_
            refine cg_X1_3 hCK hG (r := 20) (Or.inr rfl) dX1_holds_142 ?_
            refine cg_X1_73 hCK hE hG dX1_holds_145 ?_
            refine s_calli (j_runV (n := 0) (C := RJ2) (b := ad 12) (rest := [.int (iI j)]) (as := []) hx hb hml hown hts (lsz_12 l adK adV st D E A ad nv I F S (va_up Y 3 g) L) GB.blind (GB.at hK hG hE hS) (g_rec (r := 12) (ci := 10) hK hG (Or.inl (by decide)) rfl (cC_l (by decide))) q859 q614 q615 q71 q616 (by decide +kernel) ⟨rfl, rfl⟩ hR (by decide) ⟨Nat.zero_le _, Nat.zero_le _⟩ rfl hl.1 rfl (Nat.le_of_ble_eq_true rfl) dX1_holds_148) ?_
            refine r_icmp_ge (tgt := 224) hx hb dX1_holds_151 (by decide) (by omega) (by omega) (fun c8 => ?_) (fun c8 => ?_)
            · have ej : j = I 4 := by omega
              have hgn : ∀ i, 0 ≤ i → i ≤ 6 → g i = (nmS I F (S 20 4) (S 20 5) (S 20 7) (S 20 8) (Y 28) (Y 25)) i := by
                intro i i0 i1
                by_cases q5 : i < 5
                · exact hg i i0 q5
                · rcases (show i = 5 ∨ i = 6 by omega) with rfl | rfl
                  · exact g5
                  · rw [g6, ej]; rfl
              refine lv_aload_n hx hb dX1_holds_224 rfl (lv_at hl 1 rfl) ?_
              refine cg_X1_3 hCK hG (r := 20) (Or.inr rfl) dX1_holds_225 ?_
              refine cg_X1_95 hCK hE hG dX1_holds_228 ?_
              by_cases hs : S 0 2 = 0
              · rw [if_pos hs]
                have cb : F 64 ci = -1 := by rcases (show ci = 0 ∨ ci = 1 by omega) with rfl | rfl; exact (hru hs).1; exact (hru hs).2
                refine lv_ifnullN (tgt := 246) hx hb dX1_holds_231 (by decide) ?_
                refine r_iconst hx hb dX1_holds_246 ?_
                exact c_zret hCK hQ hr hlk hG hS (by decide) dX1_holds_247 (⟨if_pos cb, rfl, rfl, rfl, ⟨g, Y 2, up_self (va_up Y 3 g) 2⟩⟩)
              rw [if_neg hs]
              refine lv_ifnull hx hb dX1_holds_231 ?_
              refine lv_aload_n hx hb dX1_holds_234 rfl (lv_at hl 1 rfl) ?_
              refine cg_X1_3 hCK hG (r := 20) (Or.inr rfl) dX1_holds_235 ?_
              refine cg_X1_95 hCK hE hG dX1_holds_238 ?_
              rw [if_neg hs]
              refine lv_iload_n hx hb dX1_holds_241 rfl (lv_at hl 2 rfl) ?_
              by_cases cb : F 64 ci = -1
              · skip
                refine cl_30 (v := .null) hCK hG hs hc (by rw [if_pos cb]; rfl) dX1_holds_242 ?_
                refine lv_ifnonnullN hx hb dX1_holds_243 ?_
                refine r_iconst hx hb dX1_holds_246 ?_
                exact c_zret hCK hQ hr hlk hG hS (by decide) dX1_holds_247 (⟨if_pos cb, rfl, rfl, rfl, ⟨g, Y 2, up_self (va_up Y 3 g) 2⟩⟩)
              refine cl_30 (v := .ref (ad (31 + ci.toNat))) hCK hG hs hc (by rw [if_neg cb]; rfl) dX1_holds_242 ?_
              refine lv_ifnonnull (tgt := 248) hx hb dX1_holds_243 (by decide) ?_
              obtain ⟨hr0, hok⟩ := (gr0 ci hc.1 hc.2).resolve_left cb
              have hG : CW D E A ad nv I F S (va_up (va_up Y 3 g) 2 (Y 2)) L H := by rw [show va_up (va_up Y 3 g) 2 (Y 2) = va_up Y 3 g from up_self (va_up Y 3 g) 2]; exact hG
              refine r_iconst hx hb dX1_holds_248 ?_
              refine lv_istore_n (lv' := [(2, .int (iI 0)), (0, .ref (ad 20)), (1, .int (iI ci))]) hx hb dX1_holds_249 rfl hl (by decide) rfl (fun ls hl => ?_)
              refine r_iconst hx hb dX1_holds_250 ?_
              refine lv_istore_n (lv' := [(3, .int (iI 0)), (2, .int (iI 0)), (0, .ref (ad 20)), (1, .int (iI ci))]) hx hb dX1_holds_251 rfl hl (by decide) rfl (fun ls hl => ?_)
              have loop252_9 : ∀ (n : Nat) (top k : Int) (Y1 : Nat → Int → Int), F 65 ci - F 64 ci - k < (n : Int) → 0 ≤ k → F 64 ci + k ≤ F 65 ci → 0 ≤ top ∧ top ≤ 40 → (∃ q1 hp tp, Y1 = va_up (va_up Y 3 g) 2 q1 ∧ okM (F 62) (F 63) (F 65 ci - (F 64 ci + k)).toNat (F 64 ci + k) tp top ∧ okH hp tp top ∧ eqH q1 hp top ∧ runH (F 62) (F 63) (nmS I F (S 20 4) (S 20 5) (S 20 7) (S 20 8) (Y 28) (Y 25)) (F 65 ci - (F 64 ci + k)).toNat (F 64 ci + k) hp top = runH (F 62) (F 63) (nmS I F (S 20 4) (S 20 5) (S 20 7) (S 20 8) (Y 28) (Y 25)) (F 65 ci - F 64 ci).toNat (F 64 ci) (fun _ => 0) 0) → ∀ (H : Heap) (locs : List Loc) (ls : Array Slot), CW D E A ad nv I F S Y1 L H → va_S A s.heap H locs → lv_has ls 4 [(3, .int (iI k)), (2, .int (iI top)), (0, .ref (ad 20)), (1, .int (iI ci))] → W p l e R s m args below meth c H locs 0 0 Q (F0 m 252 ls []) := by
                intro n
                induction n with
                | zero => intro top k Y1 hn11 hk0 hk1 ht0 eY; exfalso; omega
                | succ n ih10 =>
                  intro top k Y1 hn11 hk0 hk1 ht0 eY H locs ls hG hS hl
                  obtain ⟨q1, hp, tp, rfl, hok, hoh, heq, hrun⟩ := eY
                  refine lv_iload_n hx hb dX1_holds_252 rfl (lv_at hl 0 rfl) ?_
                  refine lv_aload_n hx hb dX1_holds_253 rfl (lv_at hl 2 rfl) ?_
                  refine cg_X1_3 hCK hG (r := 20) (Or.inr rfl) dX1_holds_254 ?_
                  refine cg_X1_95 hCK hE hG dX1_holds_257 ?_
                  rw [if_neg hs]
                  refine lv_iload_n hx hb dX1_holds_260 rfl (lv_at hl 3 rfl) ?_
                  refine cl_30 (v := .ref (ad (31 + ci.toNat))) hCK hG hs hc (by rw [if_neg cb]; rfl) dX1_holds_261 ?_
                  refine c_len31 hCK hG hs hc cb (by omega) dX1_holds_262 ?_
                  refine r_icmp_ge (tgt := 302) hx hb dX1_holds_263 (by decide) (by omega) (by omega) (fun c12 => ?_) (fun c12 => ?_)
                  · rw [show (F 65 ci - (F 64 ci + k)).toNat = 0 by omega] at hok hrun
                    obtain ⟨ht1, htp⟩ := hok
                    subst ht1
                    have h01 := hoh 0 (by decide) (by decide)
                    have hq0 : q1 0 = hp 0 := heq 0 (by decide) (by decide)
                    have hrun : hp = _ := hrun
                    have h02 := h01.2 htp
                    refine lv_aload_n hx hb dX1_holds_302 rfl (lv_at hl 2 rfl) ?_
                    refine cg_X1_3 hCK hG (r := 20) (Or.inr rfl) dX1_holds_303 ?_
                    refine cg_X1_99 hCK hE hG dX1_holds_306 ?_
                    refine r_iconst hx hb dX1_holds_309 ?_
                    refine cl_2 (v := q1 0) hCK hG (by decide) rfl dX1_holds_310 ?_
                    refine r_iconst hx hb dX1_holds_311 ?_
                    refine r_icmp_ne (tgt := 319) hx hb dX1_holds_312 (by decide) (by omega) (by decide) (fun cz => ?_) (fun cz => ?_)
                    · refine r_iconst hx hb dX1_holds_319 ?_
                      exact c_zret hCK hQ hr hlk hG hS (by decide) dX1_holds_320 (⟨by unfold soZ; rw [if_neg cb, ← hrun, ← hq0, if_pos (by omega)], rfl, rfl, rfl, ⟨_, _, rfl⟩⟩)
                    · refine r_iconst hx hb dX1_holds_315 ?_
                      refine lv_goto (tgt := 320) hx hb dX1_holds_316 (by decide) ?_
                      exact c_zret hCK hQ hr hlk hG hS (by decide) dX1_holds_320 (⟨by unfold soZ; rw [if_neg cb, ← hrun, ← hq0, if_neg (by omega)], rfl, rfl, rfl, ⟨_, _, rfl⟩⟩)
                  · rw [show (F 65 ci - (F 64 ci + k)).toNat = (F 65 ci - (F 64 ci + (k + 1))).toNat + 1 by omega] at hok hrun
                    have hd := okM_d hok
                    obtain ⟨tp1, hok1, hoh1⟩ := okM_s hok hoh hnb
                    have heq1 := eqH_s (d := (F 62 (F 64 ci + k))) (w := (F 63 (F 64 ci + k))) (nm := (nmS I F (S 20 4) (S 20 5) (S 20 7) (S 20 8) (Y 28) (Y 25))) heq hd.2.1.1 (by omega)
                    have hmk := cC_mk (E := E) (ad := ad) (I := I) (F := F) (S := S) (Y := va_up (va_up Y 3 g) 2 q1) (L := L) (k := k) hc (by omega)
                    have hmv := cV_mk (nv := nv) (F := F) (S := S) (k := k) hs hc cb (by omega) (by omega)
                    have hrun1 : runH (F 62) (F 63) (nmS I F (S 20 4) (S 20 5) (S 20 7) (S 20 8) (Y 28) (Y 25)) (F 65 ci - (F 64 ci + (k + 1))).toNat (F 64 ci + k + 1) (stpH (F 62 (F 64 ci + k)) (F 63 (F 64 ci + k)) (nmS I F (S 20 4) (S 20 5) (S 20 7) (S 20 8) (Y 28) (Y 25)) hp top) (stpT (F 62 (F 64 ci + k)) top) = runH (F 62) (F 63) (nmS I F (S 20 4) (S 20 5) (S 20 7) (S 20 8) (Y 28) (Y 25)) (F 65 ci - F 64 ci).toNat (F 64 ci) (fun _ => 0) 0 := hrun
                    refine lv_aload_n hx hb dX1_holds_266 rfl (lv_at hl 2 rfl) ?_
                    refine cg_X1_3 hCK hG (r := 20) (Or.inr rfl) dX1_holds_267 ?_
                    refine cg_X1_95 hCK hE hG dX1_holds_270 ?_
                    rw [if_neg hs]
                    refine lv_iload_n hx hb dX1_holds_273 rfl (lv_at hl 3 rfl) ?_
                    refine cl_30 (v := .ref (ad (31 + ci.toNat))) hCK hG hs hc (by rw [if_neg cb]; rfl) dX1_holds_274 ?_
                    refine lv_iload_n hx hb dX1_holds_275 rfl (lv_at hl 0 rfl) ?_
                    refine cl_31m (k := k) hCK hG hs hc cb (by omega) (by omega) dX1_holds_276 ?_
                    refine lv_aload_n hx hb dX1_holds_277 rfl (lv_at hl 2 rfl) ?_
                    refine cg_X1_3 hCK hG (r := 20) (Or.inr rfl) dX1_holds_278 ?_
                    refine cg_X1_99 hCK hE hG dX1_holds_281 ?_
                    refine lv_iload_n hx hb dX1_holds_284 rfl (lv_at hl 1 rfl) ?_
                    refine lv_aload_n hx hb dX1_holds_285 rfl (lv_at hl 2 rfl) ?_
                    refine cg_X1_3 hCK hG (r := 20) (Or.inr rfl) dX1_holds_286 ?_
                    refine cg_X1_64 hCK hE hG dX1_holds_289 ?_
                    have hok' := hok
                    unfold okM at hok'
                    rcases hok' with ⟨h1, h2, h3, -⟩ | ⟨h1, h2, h3, -⟩ | ⟨h1, h2, h3, -⟩ | ⟨h1, h2, h3, -⟩ | ⟨h1, h2, h3, -⟩ | ⟨h1, h2, h3, -⟩
                    · have hrc : cC E ad I F S (va_up (va_up Y 3 g) 2 q1) L (4000 + 1000 * ci.toNat + k.toNat) = .inr (9, [.int (iI (F 63 (F 64 ci + k))), .int (iI 0)]) := hmk.trans (by unfold mkE; rw [if_pos h1])
                      refine c_calli (c_runA (n := 3) (C0 := RX10) (b := ad (4000 + 1000 * ci.toNat + k.toNat)) (rest := []) (as := [.ref (ad 2), .int (iI top), .ref (ad 3)]) hCK hE hml (cvdoes0 l adK adV st D E A ad nv I F S (va_up (va_up Y 3 g) 2 q1) L (4000 + 1000 * ci.toNat + k.toNat) hmv (F 63 (F 64 ci + k)) top (by omega) hrc) (g_rec (r := 4000 + 1000 * ci.toNat + k.toNat) (ci := 9) hK hG hmv rfl hrc) q876 q878 q897 q898 q91 q899 q877 (by decide +kernel) ⟨rfl, rfl⟩ hR (by decide) ⟨Nat.zero_le _, Nat.zero_le _⟩ hG hS rfl hl.1 rfl (Nat.le_of_ble_eq_true rfl) dX1_holds_292) hS (fun zz I1 F1 S1 Y1 H locs hpp hG hS => ?_)
                      obtain ⟨hzz, rfl, rfl, rfl, rfl⟩ := hpp
                      have hG : CW D E A ad nv I F S (va_up (va_up Y 3 g) 2 (stpH 0 (F 63 (F 64 ci + k)) g q1 top)) L H := by
                        rw [← up_up (va_up Y 3 g) 2 q1]; exact hG
                      have eT : stpT (F 62 (F 64 ci + k)) top = zz := by rw [← hzz]; rw [h1]
                      have eS : stpH (F 62 (F 64 ci + k)) (F 63 (F 64 ci + k)) (nmS I F (S 20 4) (S 20 5) (S 20 7) (S 20 8) (Y 28) (Y 25)) q1 top = stpH 0 (F 63 (F 64 ci + k)) g q1 top := by rw [h1]; rfl
                      have hz2 : 0 ≤ zz ∧ zz ≤ 40 := by
                        rw [← eT]; unfold stpT
                        split
                        · omega
                        · (try split) <;> omega
                      rw [eT] at hok1 hoh1 heq1 hrun1
                      rw [eS] at heq1
                      rw [Int.add_assoc] at hok1 hrun1
                      refine lv_istore_n (lv' := [(2, .int (iI zz)), (3, .int (iI k)), (0, .ref (ad 20)), (1, .int (iI ci))]) hx hb dX1_holds_295 rfl hl (by decide) rfl (fun ls hl => ?_)
                      refine lv_iinc (v := iI (k + 1)) (lv' := [(3, .int (iI (k + 1))), (2, .int (iI zz)), (0, .ref (ad 20)), (1, .int (iI ci))]) hx hb dX1_holds_296 hl (k := 1) rfl (iI_add _ _) (by decide) rfl (fun ls hl => ?_)
                      refine lv_goto (tgt := 252) hx hb dX1_holds_299 (by decide) ?_
                      exact ih10 zz (k + 1) (va_up (va_up Y 3 g) 2 (stpH 0 (F 63 (F 64 ci + k)) g q1 top)) (by omega) (by omega) (by omega) hz2 (⟨_, _, tp1, rfl, hok1, hoh1, heq1, hrun1⟩) _ _ _ hG hS (lv_sub hl [0, 1, 2, 3] rfl)
                    · have hrc : cC E ad I F S (va_up (va_up Y 3 g) 2 q1) L (4000 + 1000 * ci.toNat + k.toNat) = .inr (9, [.int (iI (F 63 (F 64 ci + k))), .int (iI 1)]) := hmk.trans (by unfold mkE; rw [if_neg (by omega), if_pos h1])
                      refine c_calli (c_runA (n := 3) (C0 := RX10) (b := ad (4000 + 1000 * ci.toNat + k.toNat)) (rest := []) (as := [.ref (ad 2), .int (iI top), .ref (ad 3)]) hCK hE hml (cvdoes1 l adK adV st D E A ad nv I F S (va_up (va_up Y 3 g) 2 q1) L (4000 + 1000 * ci.toNat + k.toNat) hmv (F 63 (F 64 ci + k)) top (by omega) h3 hrc) (g_rec (r := 4000 + 1000 * ci.toNat + k.toNat) (ci := 9) hK hG hmv rfl hrc) q876 q878 q897 q898 q91 q899 q877 (by decide +kernel) ⟨rfl, rfl⟩ hR (by decide) ⟨Nat.zero_le _, Nat.zero_le _⟩ hG hS rfl hl.1 rfl (Nat.le_of_ble_eq_true rfl) dX1_holds_292) hS (fun zz I1 F1 S1 Y1 H locs hpp hG hS => ?_)
                      obtain ⟨hzz, rfl, rfl, rfl, rfl⟩ := hpp
                      have hG : CW D E A ad nv I F S (va_up (va_up Y 3 g) 2 (stpH 1 (F 63 (F 64 ci + k)) g q1 top)) L H := by
                        rw [← up_up (va_up Y 3 g) 2 q1]; exact hG
                      have eT : stpT (F 62 (F 64 ci + k)) top = zz := by rw [← hzz]; rw [h1]
                      have eS : stpH (F 62 (F 64 ci + k)) (F 63 (F 64 ci + k)) (nmS I F (S 20 4) (S 20 5) (S 20 7) (S 20 8) (Y 28) (Y 25)) q1 top = stpH 1 (F 63 (F 64 ci + k)) g q1 top := by rw [h1]; show updZ q1 top ((nmS I F (S 20 4) (S 20 5) (S 20 7) (S 20 8) (Y 28) (Y 25)) (F 63 (F 64 ci + k))) = updZ q1 top (g (F 63 (F 64 ci + k))); rw [hgn _ h3.1 h3.2]
                      have hz2 : 0 ≤ zz ∧ zz ≤ 40 := by
                        rw [← eT]; unfold stpT
                        split
                        · omega
                        · (try split) <;> omega
                      rw [eT] at hok1 hoh1 heq1 hrun1
                      rw [eS] at heq1
                      rw [Int.add_assoc] at hok1 hrun1
                      refine lv_istore_n (lv' := [(2, .int (iI zz)), (3, .int (iI k)), (0, .ref (ad 20)), (1, .int (iI ci))]) hx hb dX1_holds_295 rfl hl (by decide) rfl (fun ls hl => ?_)
                      refine lv_iinc (v := iI (k + 1)) (lv' := [(3, .int (iI (k + 1))), (2, .int (iI zz)), (0, .ref (ad 20)), (1, .int (iI ci))]) hx hb dX1_holds_296 hl (k := 1) rfl (iI_add _ _) (by decide) rfl (fun ls hl => ?_)
                      refine lv_goto (tgt := 252) hx hb dX1_holds_299 (by decide) ?_
                      exact ih10 zz (k + 1) (va_up (va_up Y 3 g) 2 (stpH 1 (F 63 (F 64 ci + k)) g q1 top)) (by omega) (by omega) (by omega) hz2 (⟨_, _, tp1, rfl, hok1, hoh1, heq1, hrun1⟩) _ _ _ hG hS (lv_sub hl [0, 1, 2, 3] rfl)
                    · have hrc : cC E ad I F S (va_up (va_up Y 3 g) 2 q1) L (4000 + 1000 * ci.toNat + k.toNat) = .inr (7, [.int (iI (sgO (F 62 (F 64 ci + k))))]) := hmk.trans (mkE_s (by omega))
                      have ba := hoh (top - 2) (by omega) (by omega)
                      have bb := hoh (top - 1) (by omega) (by omega)
                      have ea := heq (top - 2) (by omega) (by omega)
                      have eb := heq (top - 1) (by omega) (by omega)
                      rw [← ea] at ba
                      rw [← eb] at bb
                      refine c_calli (c_runA (n := 3) (C0 := RX8) (b := ad (4000 + 1000 * ci.toNat + k.toNat)) (rest := []) (as := [.ref (ad 2), .int (iI top), .ref (ad 3)]) hCK hE hml (csdoes l adK adV st D E A ad nv I F S (va_up (va_up Y 3 g) 2 q1) L (4000 + 1000 * ci.toNat + k.toNat) hmv (F 62 (F 64 ci + k)) (F 63 (F 64 ci + k)) top (by omega) (by omega) ba.1 bb.1 (fun q => by omega) hrc) (g_rec (r := 4000 + 1000 * ci.toNat + k.toNat) (ci := 7) hK hG hmv rfl hrc) q876 q878 q879 q880 q85 q881 q877 (by decide +kernel) ⟨rfl, rfl⟩ hR (by decide) ⟨Nat.zero_le _, Nat.zero_le _⟩ hG hS rfl hl.1 rfl (Nat.le_of_ble_eq_true rfl) dX1_holds_292) hS (fun zz I1 F1 S1 Y1 H locs hpp hG hS => ?_)
                      obtain ⟨hzz, rfl, rfl, rfl, rfl⟩ := hpp
                      have hG : CW D E A ad nv I F S (va_up (va_up Y 3 g) 2 (stpH (F 62 (F 64 ci + k)) (F 63 (F 64 ci + k)) g q1 top)) L H := by
                        rw [← up_up (va_up Y 3 g) 2 q1]; exact hG
                      have eT : stpT (F 62 (F 64 ci + k)) top = zz := by rw [← hzz]
                      have eS : stpH (F 62 (F 64 ci + k)) (F 63 (F 64 ci + k)) (nmS I F (S 20 4) (S 20 5) (S 20 7) (S 20 8) (Y 28) (Y 25)) q1 top = stpH (F 62 (F 64 ci + k)) (F 63 (F 64 ci + k)) g q1 top := by unfold stpH; rw [if_neg (by omega), if_neg (by omega), if_neg (by omega), if_neg (by omega), if_neg (by omega)]
                      have hz2 : 0 ≤ zz ∧ zz ≤ 40 := by
                        rw [← eT]; unfold stpT
                        split
                        · omega
                        · (try split) <;> omega
                      rw [eT] at hok1 hoh1 heq1 hrun1
                      rw [eS] at heq1
                      rw [Int.add_assoc] at hok1 hrun1
                      refine lv_istore_n (lv' := [(2, .int (iI zz)), (3, .int (iI k)), (0, .ref (ad 20)), (1, .int (iI ci))]) hx hb dX1_holds_295 rfl hl (by decide) rfl (fun ls hl => ?_)
                      refine lv_iinc (v := iI (k + 1)) (lv' := [(3, .int (iI (k + 1))), (2, .int (iI zz)), (0, .ref (ad 20)), (1, .int (iI ci))]) hx hb dX1_holds_296 hl (k := 1) rfl (iI_add _ _) (by decide) rfl (fun ls hl => ?_)
                      refine lv_goto (tgt := 252) hx hb dX1_holds_299 (by decide) ?_
                      exact ih10 zz (k + 1) (va_up (va_up Y 3 g) 2 (stpH (F 62 (F 64 ci + k)) (F 63 (F 64 ci + k)) g q1 top)) (by omega) (by omega) (by omega) hz2 (⟨_, _, tp1, rfl, hok1, hoh1, heq1, hrun1⟩) _ _ _ hG hS (lv_sub hl [0, 1, 2, 3] rfl)
                    · have hrc : cC E ad I F S (va_up (va_up Y 3 g) 2 q1) L (4000 + 1000 * ci.toNat + k.toNat) = .inr (7, [.int (iI (sgO (F 62 (F 64 ci + k))))]) := hmk.trans (mkE_s (by omega))
                      have ba := hoh (top - 2) (by omega) (by omega)
                      have bb := hoh (top - 1) (by omega) (by omega)
                      have ea := heq (top - 2) (by omega) (by omega)
                      have eb := heq (top - 1) (by omega) (by omega)
                      rw [← ea] at ba
                      rw [← eb] at bb
                      refine c_calli (c_runA (n := 3) (C0 := RX8) (b := ad (4000 + 1000 * ci.toNat + k.toNat)) (rest := []) (as := [.ref (ad 2), .int (iI top), .ref (ad 3)]) hCK hE hml (csdoes l adK adV st D E A ad nv I F S (va_up (va_up Y 3 g) 2 q1) L (4000 + 1000 * ci.toNat + k.toNat) hmv (F 62 (F 64 ci + k)) (F 63 (F 64 ci + k)) top (by omega) (by omega) ba.1 bb.1 (fun q => by omega) hrc) (g_rec (r := 4000 + 1000 * ci.toNat + k.toNat) (ci := 7) hK hG hmv rfl hrc) q876 q878 q879 q880 q85 q881 q877 (by decide +kernel) ⟨rfl, rfl⟩ hR (by decide) ⟨Nat.zero_le _, Nat.zero_le _⟩ hG hS rfl hl.1 rfl (Nat.le_of_ble_eq_true rfl) dX1_holds_292) hS (fun zz I1 F1 S1 Y1 H locs hpp hG hS => ?_)
                      obtain ⟨hzz, rfl, rfl, rfl, rfl⟩ := hpp
                      have hG : CW D E A ad nv I F S (va_up (va_up Y 3 g) 2 (stpH (F 62 (F 64 ci + k)) (F 63 (F 64 ci + k)) g q1 top)) L H := by
                        rw [← up_up (va_up Y 3 g) 2 q1]; exact hG
                      have eT : stpT (F 62 (F 64 ci + k)) top = zz := by rw [← hzz]
                      have eS : stpH (F 62 (F 64 ci + k)) (F 63 (F 64 ci + k)) (nmS I F (S 20 4) (S 20 5) (S 20 7) (S 20 8) (Y 28) (Y 25)) q1 top = stpH (F 62 (F 64 ci + k)) (F 63 (F 64 ci + k)) g q1 top := by unfold stpH; rw [if_neg (by omega), if_neg (by omega), if_neg (by omega), if_neg (by omega), if_neg (by omega)]
                      have hz2 : 0 ≤ zz ∧ zz ≤ 40 := by
                        rw [← eT]; unfold stpT
                        split
                        · omega
                        · (try split) <;> omega
                      rw [eT] at hok1 hoh1 heq1 hrun1
                      rw [eS] at heq1
                      rw [Int.add_assoc] at hok1 hrun1
                      refine lv_istore_n (lv' := [(2, .int (iI zz)), (3, .int (iI k)), (0, .ref (ad 20)), (1, .int (iI ci))]) hx hb dX1_holds_295 rfl hl (by decide) rfl (fun ls hl => ?_)
                      refine lv_iinc (v := iI (k + 1)) (lv' := [(3, .int (iI (k + 1))), (2, .int (iI zz)), (0, .ref (ad 20)), (1, .int (iI ci))]) hx hb dX1_holds_296 hl (k := 1) rfl (iI_add _ _) (by decide) rfl (fun ls hl => ?_)
                      refine lv_goto (tgt := 252) hx hb dX1_holds_299 (by decide) ?_
                      exact ih10 zz (k + 1) (va_up (va_up Y 3 g) 2 (stpH (F 62 (F 64 ci + k)) (F 63 (F 64 ci + k)) g q1 top)) (by omega) (by omega) (by omega) hz2 (⟨_, _, tp1, rfl, hok1, hoh1, heq1, hrun1⟩) _ _ _ hG hS (lv_sub hl [0, 1, 2, 3] rfl)
                    · have hrc : cC E ad I F S (va_up (va_up Y 3 g) 2 q1) L (4000 + 1000 * ci.toNat + k.toNat) = .inr (7, [.int (iI (sgO (F 62 (F 64 ci + k))))]) := hmk.trans (mkE_s (by omega))
                      have ba := hoh (top - 2) (by omega) (by omega)
                      have bb := hoh (top - 1) (by omega) (by omega)
                      have ea := heq (top - 2) (by omega) (by omega)
                      have eb := heq (top - 1) (by omega) (by omega)
                      rw [← ea] at ba
                      rw [← eb] at bb
                      refine c_calli (c_runA (n := 3) (C0 := RX8) (b := ad (4000 + 1000 * ci.toNat + k.toNat)) (rest := []) (as := [.ref (ad 2), .int (iI top), .ref (ad 3)]) hCK hE hml (csdoes l adK adV st D E A ad nv I F S (va_up (va_up Y 3 g) 2 q1) L (4000 + 1000 * ci.toNat + k.toNat) hmv (F 62 (F 64 ci + k)) (F 63 (F 64 ci + k)) top (by omega) (by omega) ba.1 bb.1 (fun q => ⟨ba.2 h3.1, bb.2 h3.2⟩) hrc) (g_rec (r := 4000 + 1000 * ci.toNat + k.toNat) (ci := 7) hK hG hmv rfl hrc) q876 q878 q879 q880 q85 q881 q877 (by decide +kernel) ⟨rfl, rfl⟩ hR (by decide) ⟨Nat.zero_le _, Nat.zero_le _⟩ hG hS rfl hl.1 rfl (Nat.le_of_ble_eq_true rfl) dX1_holds_292) hS (fun zz I1 F1 S1 Y1 H locs hpp hG hS => ?_)
                      obtain ⟨hzz, rfl, rfl, rfl, rfl⟩ := hpp
                      have hG : CW D E A ad nv I F S (va_up (va_up Y 3 g) 2 (stpH (F 62 (F 64 ci + k)) (F 63 (F 64 ci + k)) g q1 top)) L H := by
                        rw [← up_up (va_up Y 3 g) 2 q1]; exact hG
                      have eT : stpT (F 62 (F 64 ci + k)) top = zz := by rw [← hzz]
                      have eS : stpH (F 62 (F 64 ci + k)) (F 63 (F 64 ci + k)) (nmS I F (S 20 4) (S 20 5) (S 20 7) (S 20 8) (Y 28) (Y 25)) q1 top = stpH (F 62 (F 64 ci + k)) (F 63 (F 64 ci + k)) g q1 top := by unfold stpH; rw [if_neg (by omega), if_neg (by omega), if_neg (by omega), if_neg (by omega), if_neg (by omega)]
                      have hz2 : 0 ≤ zz ∧ zz ≤ 40 := by
                        rw [← eT]; unfold stpT
                        split
                        · omega
                        · (try split) <;> omega
                      rw [eT] at hok1 hoh1 heq1 hrun1
                      rw [eS] at heq1
                      rw [Int.add_assoc] at hok1 hrun1
                      refine lv_istore_n (lv' := [(2, .int (iI zz)), (3, .int (iI k)), (0, .ref (ad 20)), (1, .int (iI ci))]) hx hb dX1_holds_295 rfl hl (by decide) rfl (fun ls hl => ?_)
                      refine lv_iinc (v := iI (k + 1)) (lv' := [(3, .int (iI (k + 1))), (2, .int (iI zz)), (0, .ref (ad 20)), (1, .int (iI ci))]) hx hb dX1_holds_296 hl (k := 1) rfl (iI_add _ _) (by decide) rfl (fun ls hl => ?_)
                      refine lv_goto (tgt := 252) hx hb dX1_holds_299 (by decide) ?_
                      exact ih10 zz (k + 1) (va_up (va_up Y 3 g) 2 (stpH (F 62 (F 64 ci + k)) (F 63 (F 64 ci + k)) g q1 top)) (by omega) (by omega) (by omega) hz2 (⟨_, _, tp1, rfl, hok1, hoh1, heq1, hrun1⟩) _ _ _ hG hS (lv_sub hl [0, 1, 2, 3] rfl)
                    · have hrc : cC E ad I F S (va_up (va_up Y 3 g) 2 q1) L (4000 + 1000 * ci.toNat + k.toNat) = .inr (7, [.int (iI 33)]) := hmk.trans (by rw [h1]; exact mkE_s (by decide))
                      refine c_calli (c_runA (n := 3) (C0 := RX8) (b := ad (4000 + 1000 * ci.toNat + k.toNat)) (rest := []) (as := [.ref (ad 2), .int (iI top), .ref (ad 3)]) hCK hE hml (csnot l adK adV st D E A ad nv I F S (va_up (va_up Y 3 g) 2 q1) L (4000 + 1000 * ci.toNat + k.toNat) hmv (F 63 (F 64 ci + k)) top (by omega) hrc) (g_rec (r := 4000 + 1000 * ci.toNat + k.toNat) (ci := 7) hK hG hmv rfl hrc) q876 q878 q879 q880 q85 q881 q877 (by decide +kernel) ⟨rfl, rfl⟩ hR (by decide) ⟨Nat.zero_le _, Nat.zero_le _⟩ hG hS rfl hl.1 rfl (Nat.le_of_ble_eq_true rfl) dX1_holds_292) hS (fun zz I1 F1 S1 Y1 H locs hpp hG hS => ?_)
                      obtain ⟨hzz, rfl, rfl, rfl, rfl⟩ := hpp
                      have hG : CW D E A ad nv I F S (va_up (va_up Y 3 g) 2 (stpH 11 (F 63 (F 64 ci + k)) g q1 top)) L H := by
                        rw [← up_up (va_up Y 3 g) 2 q1]; exact hG
                      have eT : stpT (F 62 (F 64 ci + k)) top = zz := by rw [← hzz]; rw [h1]
                      have eS : stpH (F 62 (F 64 ci + k)) (F 63 (F 64 ci + k)) (nmS I F (S 20 4) (S 20 5) (S 20 7) (S 20 8) (Y 28) (Y 25)) q1 top = stpH 11 (F 63 (F 64 ci + k)) g q1 top := by rw [h1]; rfl
                      have hz2 : 0 ≤ zz ∧ zz ≤ 40 := by
                        rw [← eT]; unfold stpT
                        split
                        · omega
                        · (try split) <;> omega
                      rw [eT] at hok1 hoh1 heq1 hrun1
                      rw [eS] at heq1
                      rw [Int.add_assoc] at hok1 hrun1
                      refine lv_istore_n (lv' := [(2, .int (iI zz)), (3, .int (iI k)), (0, .ref (ad 20)), (1, .int (iI ci))]) hx hb dX1_holds_295 rfl hl (by decide) rfl (fun ls hl => ?_)
                      refine lv_iinc (v := iI (k + 1)) (lv' := [(3, .int (iI (k + 1))), (2, .int (iI zz)), (0, .ref (ad 20)), (1, .int (iI ci))]) hx hb dX1_holds_296 hl (k := 1) rfl (iI_add _ _) (by decide) rfl (fun ls hl => ?_)
                      refine lv_goto (tgt := 252) hx hb dX1_holds_299 (by decide) ?_
                      exact ih10 zz (k + 1) (va_up (va_up Y 3 g) 2 (stpH 11 (F 63 (F 64 ci + k)) g q1 top)) (by omega) (by omega) (by omega) hz2 (⟨_, _, tp1, rfl, hok1, hoh1, heq1, hrun1⟩) _ _ _ hG hS (lv_sub hl [0, 1, 2, 3] rfl)
              exact loop252_9 ((F 65 ci - F 64 ci - 0 : Int).toNat + 1) 0 0 (va_up (va_up Y 3 g) 2 (Y 2)) (by omega) (by omega) (by omega) (by omega) (⟨Y 2, fun _ => 0, fun _ => 0, rfl, by rw [Int.add_zero]; exact hok, fun i h0 h1 => by omega, fun i h0 h1 => by omega, by rw [Int.add_zero]⟩) _ _ _ hG hS (lv_sub hl [0, 1, 2, 3] rfl)
            · have b9 := a9 j (by omega) (by omega)
              have b6 := a6 j (by omega) (by omega)
              have bp := gp0 j (by omega) (by omega)
              refine lv_aload_n hx hb dX1_holds_154 rfl (lv_at hl 1 rfl) ?_
              refine cg_X1_3 hCK hG (r := 20) (Or.inr rfl) dX1_holds_155 ?_
              refine cg_X1_64 hCK hE hG dX1_holds_158 ?_
              refine r_bipush hx hb dX1_holds_161 (by decide) ?_
              refine lv_dup2_11 hx hb dX1_holds_163 rfl rfl ?_
              refine cl_3 (v := g 6) hCK hG (by decide) rfl dX1_holds_164 ?_
              refine lv_aload_n hx hb dX1_holds_165 rfl (lv_at hl 1 rfl) ?_
              refine cg_X1_3 hCK hG (r := 20) (Or.inr rfl) dX1_holds_166 ?_
              refine cg_X1_73 hCK hE hG dX1_holds_169 ?_
              refine lv_iload_n hx hb dX1_holds_172 rfl (lv_at hl 0 rfl) ?_
              refine j_callr (j_runV (n := 1) (C := RJ2) (b := ad 12) (rest := [.int (iI (g 6)), .int (iI 6), .ref (ad 3)]) (as := [.int (iI j)]) hx hb hml hown hts (lgt_12 l adK adV st D E A ad nv I F S (va_up Y 3 g) L j (by omega) (by omega) (by omega)) GB.blind (GB.at hK hG hE hS) (g_rec (r := 12) (ci := 10) hK hG (Or.inl (by decide)) rfl (cC_l (by decide))) q860 q620 q621 q71 q622 (by decide +kernel) ⟨rfl, rfl⟩ hR (by decide) ⟨Nat.zero_le _, Nat.zero_le _⟩ rfl hl.1 rfl (Nat.le_of_ble_eq_true rfl) dX1_holds_173) ?_
              refine c_cast (r := 3200 + j.toNat) (ci := 4) hCK hG (by have := (show (0 : Int) ≤ j ∧ j < 100 by omega); unfold cV; omega) rfl (cC_wt (by have := (show (0 : Int) ≤ j ∧ j < 100 by omega); omega)) q861 dX1_holds_176 ?_
              refine cg_X1_89 (v := F 9 j) (z := j) hCK hE hG (by omega) rfl dX1_holds_179 ?_
              have jn13 : W p l e R s m args below meth c H locs 0 0 Q (F0 m 216 ls [.int (iI (if F 9 j = 0 ∧ Y 25 j ≠ F 6 j then 1 else 0)), .int (iI (g 6)), .int (iI 6), .ref (ad 3)]) := by
                refine r_iadd hx hb dX1_holds_216 ?_
                refine cs_3 (z := 6) (v := (g 6) + (if F 9 j = 0 ∧ Y 25 j ≠ F 6 j then 1 else 0)) hCK hG hS (by decide) dX1_holds_217 (fun H locs hG hS => ?_)
                have hG : CW D E A ad nv I F S (va_up Y 3 (updZ g 6 ((g 6) + (if F 9 j = 0 ∧ Y 25 j ≠ F 6 j then 1 else 0)))) L H := by
                  have eY : va_up Y 3 (updZ g 6 ((g 6) + (if F 9 j = 0 ∧ Y 25 j ≠ F 6 j then 1 else 0))) = va_up (va_up Y 3 g) 3 (updZ ((va_up Y 3 g) 3) 6 ((g 6) + (if F 9 j = 0 ∧ Y 25 j ≠ F 6 j then 1 else 0))) := by
                    funext i
                    by_cases h1 : i = 3
                    · subst h1; simp [va_up]
                    · simp [va_up, h1]
                  rw [eY]; exact hG
                refine lv_iinc (v := iI (j + 1)) (lv' := [(2, .int (iI (j + 1))), (0, .ref (ad 20)), (1, .int (iI ci))]) hx hb dX1_holds_218 hl (k := 0) rfl (iI_add _ _) (by decide) rfl (fun ls hl => ?_)
                refine lv_goto (tgt := 140) hx hb dX1_holds_221 (by decide) ?_
                exact ih6 (j + 1) (va_up Y 3 (updZ g 6 ((g 6) + (if F 9 j = 0 ∧ Y 25 j ≠ F 6 j then 1 else 0)))) (by omega) (by omega) (by omega) (⟨_, rfl, fun i i0 i1 => by rw [updZ_n (by omega)]; exact hg i i0 i1, by rw [updZ_n (by decide)]; exact g5, by rw [updZ_s, g6, sm_s _ hj0]⟩) _ _ _ hG hS (lv_sub hl [0, 1, 2] rfl)
              refine r_if_ne (tgt := 215) hx hb dX1_holds_182 (by decide) (by omega) (fun c14 => ?_) (fun c14 => ?_)
              · refine r_iconst hx hb dX1_holds_215 ?_
                rw [if_neg (by omega)] at jn13
                exact jn13
              · refine lv_aload_n hx hb dX1_holds_185 rfl (lv_at hl 1 rfl) ?_
                refine cg_X1_15 hCK hG (r := 20) (Or.inr rfl) dX1_holds_186 ?_
                refine W.eq (g2 := F0 m 189 ls [.ref (ad 25), .int (iI (g 6)), .int (iI 6), .ref (ad 3)]) rfl ?_
                refine lv_iload_n hx hb dX1_holds_189 rfl (lv_at hl 0 rfl) ?_
                refine cl_s0 (v := (Y 25) j) (r := 20) hCK hG (Or.inr rfl) (by omega) rfl dX1_holds_190 ?_
                refine lv_aload_n hx hb dX1_holds_191 rfl (lv_at hl 1 rfl) ?_
                refine cg_X1_3 hCK hG (r := 20) (Or.inr rfl) dX1_holds_192 ?_
                refine cg_X1_73 hCK hE hG dX1_holds_195 ?_
                refine lv_iload_n hx hb dX1_holds_198 rfl (lv_at hl 0 rfl) ?_
                refine j_callr (j_runV (n := 1) (C := RJ2) (b := ad 12) (rest := [.int (iI ((Y 25) j)), .int (iI (g 6)), .int (iI 6), .ref (ad 3)]) (as := [.int (iI j)]) hx hb hml hown hts (lgt_12 l adK adV st D E A ad nv I F S (va_up Y 3 g) L j (by omega) (by omega) (by omega)) GB.blind (GB.at hK hG hE hS) (g_rec (r := 12) (ci := 10) hK hG (Or.inl (by decide)) rfl (cC_l (by decide))) q860 q620 q621 q71 q622 (by decide +kernel) ⟨rfl, rfl⟩ hR (by decide) ⟨Nat.zero_le _, Nat.zero_le _⟩ rfl hl.1 rfl (Nat.le_of_ble_eq_true rfl) dX1_holds_199) ?_
                refine c_cast (r := 3200 + j.toNat) (ci := 4) hCK hG (by have := (show (0 : Int) ≤ j ∧ j < 100 by omega); unfold cV; omega) rfl (cC_wt (by have := (show (0 : Int) ≤ j ∧ j < 100 by omega); omega)) q861 dX1_holds_202 ?_
                refine cg_X1_92 (v := F 6 j) (z := j) hCK hE hG (by omega) rfl dX1_holds_205 ?_
                refine r_icmp_eq (tgt := 215) hx hb dX1_holds_208 (by decide) (by omega) (by omega) (fun c15 => ?_) (fun c15 => ?_)
                · refine r_iconst hx hb dX1_holds_215 ?_
                  rw [if_neg (by omega)] at jn13
                  exact jn13
                · refine r_iconst hx hb dX1_holds_211 ?_
                  refine lv_goto (tgt := 216) hx hb dX1_holds_212 (by decide) ?_
                  rw [if_pos (by omega)] at jn13
                  exact jn13
        exact loop140_5 ((I 4 - 0 : Int).toNat + 1) 0 (va_up Y 3 (updZ g 6 0)) (by omega) (by omega) (by omega) (⟨_, rfl, fun i i0 i1 => by rw [updZ_n (by omega)]; exact hg i i0 i1, by rw [updZ_n (by decide), g5, ek]; rfl, by rw [updZ_s]; rfl⟩) _ _ _ hG hS (lv_sub hl [0, 1, 2] rfl)
      · have bw := gw0 k (by omega) (by omega)
        refine lv_aload_n hx hb dX1_holds_95 rfl (lv_at hl 1 rfl) ?_
        refine cg_X1_3 hCK hG (r := 20) (Or.inr rfl) dX1_holds_96 ?_
        refine cg_X1_64 hCK hE hG dX1_holds_99 ?_
        refine r_iconst hx hb dX1_holds_102 ?_
        refine lv_dup2_11 hx hb dX1_holds_103 rfl rfl ?_
        refine cl_3 (v := g 5) hCK hG (by decide) rfl dX1_holds_104 ?_
        refine lv_aload_n hx hb dX1_holds_105 rfl (lv_at hl 1 rfl) ?_
        refine cg_X1_25 hCK hG (r := 20) (Or.inr rfl) dX1_holds_106 ?_
        refine W.eq (g2 := F0 m 109 ls [.ref (ad 28), .int (iI (g 5)), .int (iI 5), .ref (ad 3)]) rfl ?_
        refine lv_iload_n hx hb dX1_holds_109 rfl (lv_at hl 0 rfl) ?_
        refine cl_s3 (v := (Y 28) k) (r := 20) hCK hG (Or.inr rfl) (by omega) rfl dX1_holds_110 ?_
        have jn16 : W p l e R s m args below meth c H locs 0 0 Q (F0 m 119 ls [.int (iI (if Y 28 k = 0 then 0 else 1)), .int (iI (g 5)), .int (iI 5), .ref (ad 3)]) := by
          refine r_iadd hx hb dX1_holds_119 ?_
          refine cs_3 (z := 5) (v := (g 5) + (if Y 28 k = 0 then 0 else 1)) hCK hG hS (by decide) dX1_holds_120 (fun H locs hG hS => ?_)
          have hG : CW D E A ad nv I F S (va_up Y 3 (updZ g 5 ((g 5) + (if Y 28 k = 0 then 0 else 1)))) L H := by
            have eY : va_up Y 3 (updZ g 5 ((g 5) + (if Y 28 k = 0 then 0 else 1))) = va_up (va_up Y 3 g) 3 (updZ ((va_up Y 3 g) 3) 5 ((g 5) + (if Y 28 k = 0 then 0 else 1))) := by
              funext i
              by_cases h1 : i = 3
              · subst h1; simp [va_up]
              · simp [va_up, h1]
            rw [eY]; exact hG
          refine lv_iinc (v := iI (k + 1)) (lv' := [(2, .int (iI (k + 1))), (0, .ref (ad 20)), (1, .int (iI ci))]) hx hb dX1_holds_121 hl (k := 0) rfl (iI_add _ _) (by decide) rfl (fun ls hl => ?_)
          refine lv_goto (tgt := 84) hx hb dX1_holds_124 (by decide) ?_
          exact ih2 (k + 1) (va_up Y 3 (updZ g 5 ((g 5) + (if Y 28 k = 0 then 0 else 1)))) (by omega) (by omega) (by omega) (⟨_, rfl, fun i i0 i1 => by rw [updZ_n (by omega)]; exact hg i i0 i1, by rw [updZ_s, g5, sm_s _ hk0]⟩) _ _ _ hG hS (lv_sub hl [0, 1, 2] rfl)
        refine r_if_eq (tgt := 118) hx hb dX1_holds_111 (by decide) (by omega) (fun c17 => ?_) (fun c17 => ?_)
        · refine r_iconst hx hb dX1_holds_118 ?_
          rw [if_pos (by omega)] at jn16
          exact jn16
        · refine r_iconst hx hb dX1_holds_114 ?_
          refine lv_goto (tgt := 119) hx hb dX1_holds_115 (by decide) ?_
          rw [if_neg (by omega)] at jn16
          exact jn16
  exact loop84_1 ((I 15 - 0 : Int).toNat + 1) 0 (va_up Y 3 (updZ (updZ (updZ (updZ (updZ (updZ (Y 3) 0 (S 20 4)) 1 (S 20 5)) 2 (S 20 7)) 3 (S 20 8)) 4 (seaS (I 18) (F 19) (F 20) (F 21) (S 20 7))) 5 0)) (by omega) (by omega) (by omega) (⟨_, rfl, fun i i0 i1 => by rcases (show i = 0 ∨ i = 1 ∨ i = 2 ∨ i = 3 ∨ i = 4 by omega) with rfl | rfl | rfl | rfl | rfl <;> rfl, rfl⟩) _ _ _ hG hS (lv_sub hl [0, 1, 2] rfl)
