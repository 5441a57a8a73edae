/-! THE MODEL: the next token -/
set_option maxRecDepth 100000

theorem tK_n0 {x : Int → Int} {n p : Int} (h : tK x n p ≠ 0) : tF x n p ≠ n := fun q => h (by unfold tK; rw [if_pos q])
theorem tV_bd2 {x : Int → Int} {n p : Int} (hn : n ≤ 300) (hx : Bd x 300 (-128) 127) (hp : 0 ≤ p ∧ p ≤ n) : -128 ≤ tV x n p ∧ tV x n p ≤ 10000019 := by
  have h1 := tF_bd x hp.2
  unfold tV
  by_cases c : tK x n p = 2
  · rw [if_pos c]
    have := wId_bd x (tF x n p) (tT x n p)
    omega
  · rw [if_neg c]
    by_cases c1 : tK x n p = 1
    · rw [if_pos c1]
      have := (num_rel x (tF x n p) _ (t_dig c1)).1
      omega
    · rw [if_neg c1]
      by_cases c2 : tK x n p = 0
      · rw [if_pos c2]; decide
      · rw [if_neg c2]
        have := hx (tF x n p) (by omega) (by have := tK_n0 c2; omega)
        omega
theorem dX2_next_0 : decode cX2_next 0 = .ok (.aload_n 0, 1) := by decide +kernel
theorem dX2_next_1 : decode cX2_next 1 = .ok (.getfield 273, 3) := by decide +kernel
theorem dX2_next_4 : decode cX2_next 4 = .ok (.aload_n 0, 1) := by decide +kernel
theorem dX2_next_5 : decode cX2_next 5 = .ok (.getfield 260, 3) := by decide +kernel
theorem dX2_next_8 : decode cX2_next 8 = .ok (.if_icmp .ge 30, 3) := by decide +kernel
theorem dX2_next_11 : decode cX2_next 11 = .ok (.aload_n 0, 1) := by decide +kernel
theorem dX2_next_12 : decode cX2_next 12 = .ok (.getfield 126, 3) := by decide +kernel
theorem dX2_next_15 : decode cX2_next 15 = .ok (.aload_n 0, 1) := by decide +kernel
theorem dX2_next_16 : decode cX2_next 16 = .ok (.getfield 273, 3) := by decide +kernel
theorem dX2_next_19 : decode cX2_next 19 = .ok (.baload, 1) := by decide +kernel
theorem dX2_next_20 : decode cX2_next 20 = .ok (.bipush 32, 2) := by decide +kernel
theorem dX2_next_22 : decode cX2_next 22 = .ok (.if_icmp .ne 16, 3) := by decide +kernel
theorem dX2_next_25 : decode cX2_next 25 = .ok (.aload_n 0, 1) := by decide +kernel
theorem dX2_next_26 : decode cX2_next 26 = .ok (.dup, 1) := by decide +kernel
theorem dX2_next_27 : decode cX2_next 27 = .ok (.getfield 273, 3) := by decide +kernel
theorem dX2_next_30 : decode cX2_next 30 = .ok (.iconst 1, 1) := by decide +kernel
theorem dX2_next_31 : decode cX2_next 31 = .ok (.iadd, 1) := by decide +kernel
theorem dX2_next_32 : decode cX2_next 32 = .ok (.putfield 273, 3) := by decide +kernel
theorem dX2_next_35 : decode cX2_next 35 = .ok (.goto (-35), 3) := by decide +kernel
theorem dX2_next_38 : decode cX2_next 38 = .ok (.aload_n 0, 1) := by decide +kernel
theorem dX2_next_39 : decode cX2_next 39 = .ok (.aload_n 0, 1) := by decide +kernel
theorem dX2_next_40 : decode cX2_next 40 = .ok (.getfield 273, 3) := by decide +kernel
theorem dX2_next_43 : decode cX2_next 43 = .ok (.putfield 276, 3) := by decide +kernel
theorem dX2_next_46 : decode cX2_next 46 = .ok (.aload_n 0, 1) := by decide +kernel
theorem dX2_next_47 : decode cX2_next 47 = .ok (.iconst 0, 1) := by decide +kernel
theorem dX2_next_48 : decode cX2_next 48 = .ok (.putfield 279, 3) := by decide +kernel
theorem dX2_next_51 : decode cX2_next 51 = .ok (.aload_n 0, 1) := by decide +kernel
theorem dX2_next_52 : decode cX2_next 52 = .ok (.iconst 0, 1) := by decide +kernel
theorem dX2_next_53 : decode cX2_next 53 = .ok (.putfield 282, 3) := by decide +kernel
theorem dX2_next_56 : decode cX2_next 56 = .ok (.aload_n 0, 1) := by decide +kernel
theorem dX2_next_57 : decode cX2_next 57 = .ok (.getfield 273, 3) := by decide +kernel
theorem dX2_next_60 : decode cX2_next 60 = .ok (.aload_n 0, 1) := by decide +kernel
theorem dX2_next_61 : decode cX2_next 61 = .ok (.getfield 260, 3) := by decide +kernel
theorem dX2_next_64 : decode cX2_next 64 = .ok (.if_icmp .ne 4, 3) := by decide +kernel
theorem dX2_next_67 : decode cX2_next 67 = .ok (.return_, 1) := by decide +kernel
theorem dX2_next_68 : decode cX2_next 68 = .ok (.aload_n 0, 1) := by decide +kernel
theorem dX2_next_69 : decode cX2_next 69 = .ok (.getfield 126, 3) := by decide +kernel
theorem dX2_next_72 : decode cX2_next 72 = .ok (.aload_n 0, 1) := by decide +kernel
theorem dX2_next_73 : decode cX2_next 73 = .ok (.getfield 273, 3) := by decide +kernel
theorem dX2_next_76 : decode cX2_next 76 = .ok (.baload, 1) := by decide +kernel
theorem dX2_next_77 : decode cX2_next 77 = .ok (.istore_n 1, 1) := by decide +kernel
theorem dX2_next_78 : decode cX2_next 78 = .ok (.iload_n 1, 1) := by decide +kernel
theorem dX2_next_79 : decode cX2_next 79 = .ok (.invokestatic 285, 3) := by decide +kernel
theorem dX2_next_82 : decode cX2_next 82 = .ok (.ifCond .eq 66, 3) := by decide +kernel
theorem dX2_next_85 : decode cX2_next 85 = .ok (.aload_n 0, 1) := by decide +kernel
theorem dX2_next_86 : decode cX2_next 86 = .ok (.getfield 273, 3) := by decide +kernel
theorem dX2_next_89 : decode cX2_next 89 = .ok (.aload_n 0, 1) := by decide +kernel
theorem dX2_next_90 : decode cX2_next 90 = .ok (.getfield 260, 3) := by decide +kernel
theorem dX2_next_93 : decode cX2_next 93 = .ok (.if_icmp .ge 31, 3) := by decide +kernel
theorem dX2_next_96 : decode cX2_next 96 = .ok (.aload_n 0, 1) := by decide +kernel
theorem dX2_next_97 : decode cX2_next 97 = .ok (.getfield 126, 3) := by decide +kernel
theorem dX2_next_100 : decode cX2_next 100 = .ok (.aload_n 0, 1) := by decide +kernel
theorem dX2_next_101 : decode cX2_next 101 = .ok (.getfield 273, 3) := by decide +kernel
theorem dX2_next_104 : decode cX2_next 104 = .ok (.baload, 1) := by decide +kernel
theorem dX2_next_105 : decode cX2_next 105 = .ok (.invokestatic 285, 3) := by decide +kernel
theorem dX2_next_108 : decode cX2_next 108 = .ok (.ifCond .eq 16, 3) := by decide +kernel
theorem dX2_next_111 : decode cX2_next 111 = .ok (.aload_n 0, 1) := by decide +kernel
theorem dX2_next_112 : decode cX2_next 112 = .ok (.dup, 1) := by decide +kernel
theorem dX2_next_113 : decode cX2_next 113 = .ok (.getfield 273, 3) := by decide +kernel
theorem dX2_next_116 : decode cX2_next 116 = .ok (.iconst 1, 1) := by decide +kernel
theorem dX2_next_117 : decode cX2_next 117 = .ok (.iadd, 1) := by decide +kernel
theorem dX2_next_118 : decode cX2_next 118 = .ok (.putfield 273, 3) := by decide +kernel
theorem dX2_next_121 : decode cX2_next 121 = .ok (.goto (-36), 3) := by decide +kernel
theorem dX2_next_124 : decode cX2_next 124 = .ok (.aload_n 0, 1) := by decide +kernel
theorem dX2_next_125 : decode cX2_next 125 = .ok (.iconst 2, 1) := by decide +kernel
theorem dX2_next_126 : decode cX2_next 126 = .ok (.putfield 282, 3) := by decide +kernel
theorem dX2_next_129 : decode cX2_next 129 = .ok (.aload_n 0, 1) := by decide +kernel
theorem dX2_next_130 : decode cX2_next 130 = .ok (.aload_n 0, 1) := by decide +kernel
theorem dX2_next_131 : decode cX2_next 131 = .ok (.aload_n 0, 1) := by decide +kernel
theorem dX2_next_132 : decode cX2_next 132 = .ok (.getfield 276, 3) := by decide +kernel
theorem dX2_next_135 : decode cX2_next 135 = .ok (.aload_n 0, 1) := by decide +kernel
theorem dX2_next_136 : decode cX2_next 136 = .ok (.getfield 273, 3) := by decide +kernel
theorem dX2_next_139 : decode cX2_next 139 = .ok (.invokevirtual 288, 3) := by decide +kernel
theorem dX2_next_142 : decode cX2_next 142 = .ok (.putfield 279, 3) := by decide +kernel
theorem dX2_next_145 : decode cX2_next 145 = .ok (.goto 193, 3) := by decide +kernel
theorem dX2_next_148 : decode cX2_next 148 = .ok (.iload_n 1, 1) := by decide +kernel
theorem dX2_next_149 : decode cX2_next 149 = .ok (.invokestatic 291, 3) := by decide +kernel
theorem dX2_next_152 : decode cX2_next 152 = .ok (.ifCond .eq 90, 3) := by decide +kernel
theorem dX2_next_155 : decode cX2_next 155 = .ok (.aload_n 0, 1) := by decide +kernel
theorem dX2_next_156 : decode cX2_next 156 = .ok (.getfield 273, 3) := by decide +kernel
theorem dX2_next_159 : decode cX2_next 159 = .ok (.aload_n 0, 1) := by decide +kernel
theorem dX2_next_160 : decode cX2_next 160 = .ok (.getfield 260, 3) := by decide +kernel
theorem dX2_next_163 : decode cX2_next 163 = .ok (.if_icmp .ge 71, 3) := by decide +kernel
theorem dX2_next_166 : decode cX2_next 166 = .ok (.aload_n 0, 1) := by decide +kernel
theorem dX2_next_167 : decode cX2_next 167 = .ok (.getfield 126, 3) := by decide +kernel
theorem dX2_next_170 : decode cX2_next 170 = .ok (.aload_n 0, 1) := by decide +kernel
theorem dX2_next_171 : decode cX2_next 171 = .ok (.getfield 273, 3) := by decide +kernel
theorem dX2_next_174 : decode cX2_next 174 = .ok (.baload, 1) := by decide +kernel
theorem dX2_next_175 : decode cX2_next 175 = .ok (.invokestatic 291, 3) := by decide +kernel
theorem dX2_next_178 : decode cX2_next 178 = .ok (.ifCond .eq 56, 3) := by decide +kernel
theorem dX2_next_181 : decode cX2_next 181 = .ok (.aload_n 0, 1) := by decide +kernel
theorem dX2_next_182 : decode cX2_next 182 = .ok (.aload_n 0, 1) := by decide +kernel
theorem dX2_next_183 : decode cX2_next 183 = .ok (.getfield 279, 3) := by decide +kernel
theorem dX2_next_186 : decode cX2_next 186 = .ok (.ldc 236, 2) := by decide +kernel
theorem dX2_next_188 : decode cX2_next 188 = .ok (.if_icmp .le 10, 3) := by decide +kernel
theorem dX2_next_191 : decode cX2_next 191 = .ok (.aload_n 0, 1) := by decide +kernel
theorem dX2_next_192 : decode cX2_next 192 = .ok (.getfield 279, 3) := by decide +kernel
theorem dX2_next_195 : decode cX2_next 195 = .ok (.goto 23, 3) := by decide +kernel
theorem dX2_next_198 : decode cX2_next 198 = .ok (.bipush 10, 2) := by decide +kernel
theorem dX2_next_200 : decode cX2_next 200 = .ok (.aload_n 0, 1) := by decide +kernel
theorem dX2_next_201 : decode cX2_next 201 = .ok (.getfield 279, 3) := by decide +kernel
theorem dX2_next_204 : decode cX2_next 204 = .ok (.imul, 1) := by decide +kernel
theorem dX2_next_205 : decode cX2_next 205 = .ok (.aload_n 0, 1) := by decide +kernel
theorem dX2_next_206 : decode cX2_next 206 = .ok (.getfield 126, 3) := by decide +kernel
theorem dX2_next_209 : decode cX2_next 209 = .ok (.aload_n 0, 1) := by decide +kernel
theorem dX2_next_210 : decode cX2_next 210 = .ok (.getfield 273, 3) := by decide +kernel
theorem dX2_next_213 : decode cX2_next 213 = .ok (.baload, 1) := by decide +kernel
theorem dX2_next_214 : decode cX2_next 214 = .ok (.iadd, 1) := by decide +kernel
theorem dX2_next_215 : decode cX2_next 215 = .ok (.bipush 48, 2) := by decide +kernel
theorem dX2_next_217 : decode cX2_next 217 = .ok (.isub, 1) := by decide +kernel
theorem dX2_next_218 : decode cX2_next 218 = .ok (.putfield 279, 3) := by decide +kernel
theorem dX2_next_221 : decode cX2_next 221 = .ok (.aload_n 0, 1) := by decide +kernel
theorem dX2_next_222 : decode cX2_next 222 = .ok (.dup, 1) := by decide +kernel
theorem dX2_next_223 : decode cX2_next 223 = .ok (.getfield 273, 3) := by decide +kernel
theorem dX2_next_226 : decode cX2_next 226 = .ok (.iconst 1, 1) := by decide +kernel
theorem dX2_next_227 : decode cX2_next 227 = .ok (.iadd, 1) := by decide +kernel
theorem dX2_next_228 : decode cX2_next 228 = .ok (.putfield 273, 3) := by decide +kernel
theorem dX2_next_231 : decode cX2_next 231 = .ok (.goto (-76), 3) := by decide +kernel
theorem dX2_next_234 : decode cX2_next 234 = .ok (.aload_n 0, 1) := by decide +kernel
theorem dX2_next_235 : decode cX2_next 235 = .ok (.iconst 1, 1) := by decide +kernel
theorem dX2_next_236 : decode cX2_next 236 = .ok (.putfield 282, 3) := by decide +kernel
theorem dX2_next_239 : decode cX2_next 239 = .ok (.goto 99, 3) := by decide +kernel
theorem dX2_next_242 : decode cX2_next 242 = .ok (.aload_n 0, 1) := by decide +kernel
theorem dX2_next_243 : decode cX2_next 243 = .ok (.iload_n 1, 1) := by decide +kernel
theorem dX2_next_244 : decode cX2_next 244 = .ok (.bipush 43, 2) := by decide +kernel
theorem dX2_next_246 : decode cX2_next 246 = .ok (.if_icmp .eq 69, 3) := by decide +kernel
theorem dX2_next_249 : decode cX2_next 249 = .ok (.iload_n 1, 1) := by decide +kernel
theorem dX2_next_250 : decode cX2_next 250 = .ok (.bipush 45, 2) := by decide +kernel
theorem dX2_next_252 : decode cX2_next 252 = .ok (.if_icmp .eq 63, 3) := by decide +kernel
theorem dX2_next_255 : decode cX2_next 255 = .ok (.iload_n 1, 1) := by decide +kernel
theorem dX2_next_256 : decode cX2_next 256 = .ok (.bipush 42, 2) := by decide +kernel
theorem dX2_next_258 : decode cX2_next 258 = .ok (.if_icmp .eq 57, 3) := by decide +kernel
theorem dX2_next_261 : decode cX2_next 261 = .ok (.iload_n 1, 1) := by decide +kernel
theorem dX2_next_262 : decode cX2_next 262 = .ok (.bipush 47, 2) := by decide +kernel
theorem dX2_next_264 : decode cX2_next 264 = .ok (.if_icmp .eq 51, 3) := by decide +kernel
theorem dX2_next_267 : decode cX2_next 267 = .ok (.iload_n 1, 1) := by decide +kernel
theorem dX2_next_268 : decode cX2_next 268 = .ok (.bipush 40, 2) := by decide +kernel
theorem dX2_next_270 : decode cX2_next 270 = .ok (.if_icmp .eq 45, 3) := by decide +kernel
theorem dX2_next_273 : decode cX2_next 273 = .ok (.iload_n 1, 1) := by decide +kernel
theorem dX2_next_274 : decode cX2_next 274 = .ok (.bipush 41, 2) := by decide +kernel
theorem dX2_next_276 : decode cX2_next 276 = .ok (.if_icmp .eq 39, 3) := by decide +kernel
theorem dX2_next_279 : decode cX2_next 279 = .ok (.iload_n 1, 1) := by decide +kernel
theorem dX2_next_280 : decode cX2_next 280 = .ok (.bipush 91, 2) := by decide +kernel
theorem dX2_next_282 : decode cX2_next 282 = .ok (.if_icmp .eq 33, 3) := by decide +kernel
theorem dX2_next_285 : decode cX2_next 285 = .ok (.iload_n 1, 1) := by decide +kernel
theorem dX2_next_286 : decode cX2_next 286 = .ok (.bipush 93, 2) := by decide +kernel
theorem dX2_next_288 : decode cX2_next 288 = .ok (.if_icmp .eq 27, 3) := by decide +kernel
theorem dX2_next_291 : decode cX2_next 291 = .ok (.iload_n 1, 1) := by decide +kernel
theorem dX2_next_292 : decode cX2_next 292 = .ok (.bipush 60, 2) := by decide +kernel
theorem dX2_next_294 : decode cX2_next 294 = .ok (.if_icmp .eq 21, 3) := by decide +kernel
theorem dX2_next_297 : decode cX2_next 297 = .ok (.iload_n 1, 1) := by decide +kernel
theorem dX2_next_298 : decode cX2_next 298 = .ok (.bipush 62, 2) := by decide +kernel
theorem dX2_next_300 : decode cX2_next 300 = .ok (.if_icmp .eq 15, 3) := by decide +kernel
theorem dX2_next_303 : decode cX2_next 303 = .ok (.iload_n 1, 1) := by decide +kernel
theorem dX2_next_304 : decode cX2_next 304 = .ok (.bipush 61, 2) := by decide +kernel
theorem dX2_next_306 : decode cX2_next 306 = .ok (.if_icmp .eq 9, 3) := by decide +kernel
theorem dX2_next_309 : decode cX2_next 309 = .ok (.iload_n 1, 1) := by decide +kernel
theorem dX2_next_310 : decode cX2_next 310 = .ok (.bipush 59, 2) := by decide +kernel
theorem dX2_next_312 : decode cX2_next 312 = .ok (.if_icmp .ne 7, 3) := by decide +kernel
theorem dX2_next_315 : decode cX2_next 315 = .ok (.iconst 3, 1) := by decide +kernel
theorem dX2_next_316 : decode cX2_next 316 = .ok (.goto 4, 3) := by decide +kernel
theorem dX2_next_319 : decode cX2_next 319 = .ok (.iconst 4, 1) := by decide +kernel
theorem dX2_next_320 : decode cX2_next 320 = .ok (.putfield 282, 3) := by decide +kernel
theorem dX2_next_323 : decode cX2_next 323 = .ok (.aload_n 0, 1) := by decide +kernel
theorem dX2_next_324 : decode cX2_next 324 = .ok (.iload_n 1, 1) := by decide +kernel
theorem dX2_next_325 : decode cX2_next 325 = .ok (.putfield 279, 3) := by decide +kernel
theorem dX2_next_328 : decode cX2_next 328 = .ok (.aload_n 0, 1) := by decide +kernel
theorem dX2_next_329 : decode cX2_next 329 = .ok (.dup, 1) := by decide +kernel
theorem dX2_next_330 : decode cX2_next 330 = .ok (.getfield 273, 3) := by decide +kernel
theorem dX2_next_333 : decode cX2_next 333 = .ok (.iconst 1, 1) := by decide +kernel
theorem dX2_next_334 : decode cX2_next 334 = .ok (.iadd, 1) := by decide +kernel
theorem dX2_next_335 : decode cX2_next 335 = .ok (.putfield 273, 3) := by decide +kernel
theorem dX2_next_338 : decode cX2_next 338 = .ok (.return_, 1) := by decide +kernel
set_option maxHeartbeats 4000000 in
theorem met_next (l : Launch) (adK adV st : Nat → Nat) (D : va_G) (E : Nat → ClassId) (A : Nat → Prop) (h : Nat) (ad : Nat → Nat) (I : Nat → Int) (F : Nat → Int → Int) (h49 : 0 ≤ I 49 ∧ I 49 ≤ I 48) (gl0 : gTxt I F) : ME l yX2_next cX2_next 2 none (mrm 5) adK adV st D E A h ad [] I F (MQv D E A h ad (fun I1 F1 => va_up (va_up (va_up (va_up I 49 (tT (F 47) (I 48) (I 49))) 50 (tK (F 47) (I 48) (I 49))) 51 (tF (F 47) (I 48) (I 49))) 52 (tV (F 47) (I 48) (I 49)) = I1 ∧ F = F1)) := by
  refine m_startE (by decide) rfl (Nat.le_of_ble_eq_true rfl) ?_
  intro p e R s m args below meth c ls Q hR hQ hC hml hr hlk hM hS hE hl
  have hx := hC.1
  have hb := hC.2.1
  have hown := hC.2.2.1
  have hts := hC.2.2.2.1
  have hl : lv_has ls 2 [(0, .ref h)] := hl
  obtain ⟨i48, a47⟩ := id gl0
  have hF := tF_bd (F 47) h49.2
  have hT := tT_bd (F 47) h49.2
  have k38 : ∀ (H : Heap) (locs : List Loc) (ls : Array Slot), MW D E A h ad (va_up I 49 (tF (F 47) (I 48) (I 49))) F H → va_S A s.heap H locs → lv_has ls 2 [(0, .ref h)] → W p l e R s m args below meth c H locs 0 0 Q (F0 m 38 ls []) := by
    intro H locs ls  hM hS hl
    refine lv_aload_n hx hb dX2_next_38 rfl (lv_at hl 0 rfl) ?_
    refine lv_aload_n hx hb dX2_next_39 rfl (lv_at hl 0 rfl) ?_
    refine mg_49 (v := tF (F 47) (I 48) (I 49)) hC hM rfl dX2_next_40 ?_
    refine mp_51 hC hM hS dX2_next_43 (fun H locs hM hS => ?_)
    refine lv_aload_n hx hb dX2_next_46 rfl (lv_at hl 0 rfl) ?_
    refine r_iconst hx hb dX2_next_47 ?_
    refine mp_52 hC hM hS dX2_next_48 (fun H locs hM hS => ?_)
    refine lv_aload_n hx hb dX2_next_51 rfl (lv_at hl 0 rfl) ?_
    refine r_iconst hx hb dX2_next_52 ?_
    refine mp_50 hC hM hS dX2_next_53 (fun H locs hM hS => ?_)
    refine lv_aload_n hx hb dX2_next_56 rfl (lv_at hl 0 rfl) ?_
    refine mg_49 (v := tF (F 47) (I 48) (I 49)) hC hM rfl dX2_next_57 ?_
    refine lv_aload_n hx hb dX2_next_60 rfl (lv_at hl 0 rfl) ?_
    refine mg_48 (v := I 48) hC hM rfl dX2_next_61 ?_
    refine r_icmp_ne (tgt := 68) hx hb dX2_next_64 (by decide) (by omega) (by omega) (fun cn => ?_) (fun cn => ?_)
    · have cn : tF (F 47) (I 48) (I 49) ≠ I 48 := cn
      have b47 := a47 (tF (F 47) (I 48) (I 49)) (by omega) (by omega)
      refine lv_aload_n hx hb dX2_next_68 rfl (lv_at hl 0 rfl) ?_
      refine mg_47 hC hM dX2_next_69 ?_
      refine lv_aload_n hx hb dX2_next_72 rfl (lv_at hl 0 rfl) ?_
      refine mg_49 (v := tF (F 47) (I 48) (I 49)) hC hM rfl dX2_next_73 ?_
      refine ml_47 (v := F 47 (tF (F 47) (I 48) (I 49))) hC hM (by omega) rfl dX2_next_76 ?_
      obtain ⟨bz, h_bz⟩ : ∃ x : Int, x = F 47 (tF (F 47) (I 48) (I 49)) := ⟨_, rfl⟩
      refine W.eq (g2 := F0 m 77 ls [.int (iI bz)]) (by subst h_bz; rfl) ?_
      have eb : F 47 (tF (F 47) (I 48) (I 49)) = bz := h_bz.symm
      rw [eb] at b47
      refine lv_istore_n (lv' := [(1, .int (iI bz)), (0, .ref h)]) hx hb dX2_next_77 rfl hl (by decide) rfl (fun ls hl => ?_)
      refine lv_iload_n hx hb dX2_next_78 rfl (lv_at hl 0 rfl) ?_
      refine s_calli (kX2_X2_isLetter (rest := []) (as := [.int (iI bz)]) hx hb hml hown hts (met_isLetter l bz (by omega)) ⟨rfl, rfl⟩ hR (by decide) rfl hl.1 rfl (Nat.le_of_ble_eq_true rfl) dX2_next_79) ?_
      refine r_ifeqB (tgt := 148) hx hb dX2_next_82 (by decide) (fun cl => ?_) (fun cl => ?_)
      · have hle : ¬ fLe (F 47) (tF (F 47) (I 48) (I 49)) = true := fun z => cl (by have := of_decide_eq_true z; rw [eb] at this; exact this)
        refine lv_iload_n hx hb dX2_next_148 rfl (lv_at hl 0 rfl) ?_
        refine s_calli (kX2_X2_isDigit (rest := []) (as := [.int (iI bz)]) hx hb hml hown hts (met_isDigit l bz (by omega)) ⟨rfl, rfl⟩ hR (by decide) rfl hl.1 rfl (Nat.le_of_ble_eq_true rfl) dX2_next_149) ?_
        refine r_ifeqB (tgt := 242) hx hb dX2_next_152 (by decide) (fun cd => ?_) (fun cd => ?_)
        · have hdi : ¬ fDi (F 47) (tF (F 47) (I 48) (I 49)) = true := fun z => cd (by have := of_decide_eq_true z; rw [eb] at this; exact this)
          refine lv_aload_n hx hb dX2_next_242 rfl (lv_at hl 1 rfl) ?_
          refine lv_iload_n hx hb dX2_next_243 rfl (lv_at hl 0 rfl) ?_
          refine r_bipush hx hb dX2_next_244 (by decide) ?_
          have jn1 : W p l e R s m args below meth c H locs 0 0 Q (F0 m 320 ls [.int (iI (if bz = 43 ∨ bz = 45 ∨ bz = 42 ∨ bz = 47 ∨ bz = 40 ∨ bz = 41 ∨ bz = 91 ∨ bz = 93 ∨ bz = 60 ∨ bz = 62 ∨ bz = 61 ∨ bz = 59 then 3 else 4)), .ref h]) := by
            refine mp_50 hC hM hS dX2_next_320 (fun H locs hM hS => ?_)
            refine lv_aload_n hx hb dX2_next_323 rfl (lv_at hl 1 rfl) ?_
            refine lv_iload_n hx hb dX2_next_324 rfl (lv_at hl 0 rfl) ?_
            refine mp_52 hC hM hS dX2_next_325 (fun H locs hM hS => ?_)
            refine lv_aload_n hx hb dX2_next_328 rfl (lv_at hl 1 rfl) ?_
            refine lv_dup hx hb dX2_next_329 rfl ?_
            refine mg_49 (v := tF (F 47) (I 48) (I 49)) hC hM rfl dX2_next_330 ?_
            refine r_iconst hx hb dX2_next_333 ?_
            refine r_iadd hx hb dX2_next_334 ?_
            refine mp_49 hC hM hS dX2_next_335 (fun H locs hM hS => ?_)
            have eT : tT (F 47) (I 48) (I 49) = (tF (F 47) (I 48) (I 49)) + 1 := by unfold tT; rw [if_neg cn, if_neg hle, if_neg hdi]
            have eK : tK (F 47) (I 48) (I 49) = if bz = 43 ∨ bz = 45 ∨ bz = 42 ∨ bz = 47 ∨ bz = 40 ∨ bz = 41 ∨ bz = 91 ∨ bz = 93 ∨ bz = 60 ∨ bz = 62 ∨ bz = 61 ∨ bz = 59 then 3 else 4 := by unfold tK; rw [if_neg cn, if_neg hle, if_neg hdi, eb]
            have eV : tV (F 47) (I 48) (I 49) = bz := by unfold tV; rw [if_neg (show ¬ tK (F 47) (I 48) (I 49) = 2 by unfold tK; rw [if_neg cn, if_neg hle, if_neg hdi]; split <;> decide), if_neg (show ¬ tK (F 47) (I 48) (I 49) = 1 by unfold tK; rw [if_neg cn, if_neg hle, if_neg hdi]; split <;> decide), if_neg (show ¬ tK (F 47) (I 48) (I 49) = 0 by unfold tK; rw [if_neg cn, if_neg hle, if_neg hdi]; split <;> decide), eb]
            have eI : va_up (va_up (va_up (va_up I 49 ((tF (F 47) (I 48) (I 49)) + 1)) 50 (if bz = 43 ∨ bz = 45 ∨ bz = 42 ∨ bz = 47 ∨ bz = 40 ∨ bz = 41 ∨ bz = 91 ∨ bz = 93 ∨ bz = 60 ∨ bz = 62 ∨ bz = 61 ∨ bz = 59 then 3 else 4)) 51 (tF (F 47) (I 48) (I 49))) 52 (bz) = va_up (va_up (va_up (va_up (va_up (va_up (va_up I 49 (tF (F 47) (I 48) (I 49))) 51 (tF (F 47) (I 48) (I 49))) 52 0) 50 0) 50 (if bz = 43 ∨ bz = 45 ∨ bz = 42 ∨ bz = 47 ∨ bz = 40 ∨ bz = 41 ∨ bz = 91 ∨ bz = 93 ∨ bz = 60 ∨ bz = 62 ∨ bz = 61 ∨ bz = 59 then 3 else 4)) 52 bz) 49 ((tF (F 47) (I 48) (I 49)) + 1) := by
              funext i
              by_cases g49 : i = 49
              · subst g49; simp [va_up]
              by_cases g50 : i = 50
              · subst g50; simp [va_up]
              by_cases g51 : i = 51
              · subst g51; simp [va_up]
              by_cases g52 : i = 52
              · subst g52; simp [va_up]
              simp [va_up, g49, g50, g51, g52]
            exact m_vret hC hQ hr hlk hM hS dX2_next_338 (⟨by rw [eT, eK, eV]; exact eI, rfl⟩)
          refine r_icmp_eq (tgt := 315) hx hb dX2_next_246 (by decide) (by omega) (by decide) (fun c2 => ?_) (fun c2 => ?_)
          · refine r_iconst hx hb dX2_next_315 ?_
            refine lv_goto (tgt := 320) hx hb dX2_next_316 (by decide) ?_
            rw [if_pos (by omega)] at jn1
            exact jn1
          · refine lv_iload_n hx hb dX2_next_249 rfl (lv_at hl 0 rfl) ?_
            refine r_bipush hx hb dX2_next_250 (by decide) ?_
            refine r_icmp_eq (tgt := 315) hx hb dX2_next_252 (by decide) (by omega) (by decide) (fun c3 => ?_) (fun c3 => ?_)
            · refine r_iconst hx hb dX2_next_315 ?_
              refine lv_goto (tgt := 320) hx hb dX2_next_316 (by decide) ?_
              rw [if_pos (by omega)] at jn1
              exact jn1
            · refine lv_iload_n hx hb dX2_next_255 rfl (lv_at hl 0 rfl) ?_
              refine r_bipush hx hb dX2_next_256 (by decide) ?_
              refine r_icmp_eq (tgt := 315) hx hb dX2_next_258 (by decide) (by omega) (by decide) (fun c4 => ?_) (fun c4 => ?_)
              · refine r_iconst hx hb dX2_next_315 ?_
                refine lv_goto (tgt := 320) hx hb dX2_next_316 (by decide) ?_
                rw [if_pos (by omega)] at jn1
                exact jn1
              · refine lv_iload_n hx hb dX2_next_261 rfl (lv_at hl 0 rfl) ?_
                refine r_bipush hx hb dX2_next_262 (by decide) ?_
                refine r_icmp_eq (tgt := 315) hx hb dX2_next_264 (by decide) (by omega) (by decide) (fun c5 => ?_) (fun c5 => ?_)
                · refine r_iconst hx hb dX2_next_315 ?_
                  refine lv_goto (tgt := 320) hx hb dX2_next_316 (by decide) ?_
                  rw [if_pos (by omega)] at jn1
                  exact jn1
                · refine lv_iload_n hx hb dX2_next_267 rfl (lv_at hl 0 rfl) ?_
                  refine r_bipush hx hb dX2_next_268 (by decide) ?_
                  refine r_icmp_eq (tgt := 315) hx hb dX2_next_270 (by decide) (by omega) (by decide) (fun c6 => ?_) (fun c6 => ?_)
                  · refine r_iconst hx hb dX2_next_315 ?_
                    refine lv_goto (tgt := 320) hx hb dX2_next_316 (by decide) ?_
                    rw [if_pos (by omega)] at jn1
                    exact jn1
                  · refine lv_iload_n hx hb dX2_next_273 rfl (lv_at hl 0 rfl) ?_
                    refine r_bipush hx hb dX2_next_274 (by decide) ?_
                    refine r_icmp_eq (tgt := 315) hx hb dX2_next_276 (by decide) (by omega) (by decide) (fun c7 => ?_) (fun c7 => ?_)
                    · refine r_iconst hx hb dX2_next_315 ?_
                      refine lv_goto (tgt := 320) hx hb dX2_next_316 (by decide) ?_
                      rw [if_pos (by omega)] at jn1
                      exact jn1
                    · refine lv_iload_n hx hb dX2_next_279 rfl (lv_at hl 0 rfl) ?_
                      refine r_bipush hx hb dX2_next_280 (by decide) ?_
                      refine r_icmp_eq (tgt := 315) hx hb dX2_next_282 (by decide) (by omega) (by decide) (fun c8 => ?_) (fun c8 => ?_)
                      · refine r_iconst hx hb dX2_next_315 ?_
                        refine lv_goto (tgt := 320) hx hb dX2_next_316 (by decide) ?_
                        rw [if_pos (by omega)] at jn1
                        exact jn1
                      · refine lv_iload_n hx hb dX2_next_285 rfl (lv_at hl 0 rfl) ?_
                        refine r_bipush hx hb dX2_next_286 (by decide) ?_
                        refine r_icmp_eq (tgt := 315) hx hb dX2_next_288 (by decide) (by omega) (by decide) (fun c9 => ?_) (fun c9 => ?_)
                        · refine r_iconst hx hb dX2_next_315 ?_
                          refine lv_goto (tgt := 320) hx hb dX2_next_316 (by decide) ?_
                          rw [if_pos (by omega)] at jn1
                          exact jn1
                        · refine lv_iload_n hx hb dX2_next_291 rfl (lv_at hl 0 rfl) ?_
                          refine r_bipush hx hb dX2_next_292 (by decide) ?_
                          refine r_icmp_eq (tgt := 315) hx hb dX2_next_294 (by decide) (by omega) (by decide) (fun c10 => ?_) (fun c10 => ?_)
                          · refine r_iconst hx hb dX2_next_315 ?_
                            refine lv_goto (tgt := 320) hx hb dX2_next_316 (by decide) ?_
                            rw [if_pos (by omega)] at jn1
                            exact jn1
                          · refine lv_iload_n hx hb dX2_next_297 rfl (lv_at hl 0 rfl) ?_
                            refine r_bipush hx hb dX2_next_298 (by decide) ?_
                            refine r_icmp_eq (tgt := 315) hx hb dX2_next_300 (by decide) (by omega) (by decide) (fun c11 => ?_) (fun c11 => ?_)
                            · refine r_iconst hx hb dX2_next_315 ?_
                              refine lv_goto (tgt := 320) hx hb dX2_next_316 (by decide) ?_
                              rw [if_pos (by omega)] at jn1
                              exact jn1
                            · refine lv_iload_n hx hb dX2_next_303 rfl (lv_at hl 0 rfl) ?_
                              refine r_bipush hx hb dX2_next_304 (by decide) ?_
                              refine r_icmp_eq (tgt := 315) hx hb dX2_next_306 (by decide) (by omega) (by decide) (fun c12 => ?_) (fun c12 => ?_)
                              · refine r_iconst hx hb dX2_next_315 ?_
                                refine lv_goto (tgt := 320) hx hb dX2_next_316 (by decide) ?_
                                rw [if_pos (by omega)] at jn1
                                exact jn1
                              · refine lv_iload_n hx hb dX2_next_309 rfl (lv_at hl 0 rfl) ?_
                                refine r_bipush hx hb dX2_next_310 (by decide) ?_
                                refine r_icmp_ne (tgt := 319) hx hb dX2_next_312 (by decide) (by omega) (by decide) (fun c13 => ?_) (fun c13 => ?_)
                                · refine r_iconst hx hb dX2_next_319 ?_
                                  rw [if_neg (by omega)] at jn1
                                  exact jn1
                                · refine r_iconst hx hb dX2_next_315 ?_
                                  refine lv_goto (tgt := 320) hx hb dX2_next_316 (by decide) ?_
                                  rw [if_pos (by omega)] at jn1
                                  exact jn1
        · have hdi : fDi (F 47) (tF (F 47) (I 48) (I 49)) = true := decide_eq_true (by rw [eb]; exact cd)
          have eTT : tT (F 47) (I 48) (I 49) = rn (fDi (F 47)) (I 48) (tF (F 47) (I 48) (I 49)) := by unfold tT; rw [if_neg cn, if_neg hle, if_pos hdi]
          have eK : tK (F 47) (I 48) (I 49) = 1 := by unfold tK; rw [if_neg cn, if_neg hle, if_pos hdi]
          have k234 : ∀ (H : Heap) (locs : List Loc) (ls : Array Slot), MW D E A h ad (va_up (va_up (va_up (va_up I 49 (tT (F 47) (I 48) (I 49))) 51 (tF (F 47) (I 48) (I 49))) 52 (numM (F 47) (tF (F 47) (I 48) (I 49)) ((tT (F 47) (I 48) (I 49)) - tF (F 47) (I 48) (I 49)).toNat)) 50 0) F H → va_S A s.heap H locs → lv_has ls 2 [(0, .ref h)] → W p l e R s m args below meth c H locs 0 0 Q (F0 m 234 ls []) := by
            intro H locs ls  hM hS hl
            refine lv_aload_n hx hb dX2_next_234 rfl (lv_at hl 0 rfl) ?_
            refine r_iconst hx hb dX2_next_235 ?_
            refine mp_50 hC hM hS dX2_next_236 (fun H locs hM hS => ?_)
            refine lv_goto (tgt := 338) hx hb dX2_next_239 (by decide) ?_
            have eT : tT (F 47) (I 48) (I 49) = tT (F 47) (I 48) (I 49) := rfl
            have eK : tK (F 47) (I 48) (I 49) = 1 := eK
            have eV : tV (F 47) (I 48) (I 49) = numM (F 47) (tF (F 47) (I 48) (I 49)) ((tT (F 47) (I 48) (I 49)) - tF (F 47) (I 48) (I 49)).toNat := by unfold tV; rw [if_neg (show ¬ tK (F 47) (I 48) (I 49) = 2 by rw [eK]; decide), if_pos eK]
            have eI : va_up (va_up (va_up (va_up I 49 (tT (F 47) (I 48) (I 49))) 50 (1)) 51 (tF (F 47) (I 48) (I 49))) 52 (numM (F 47) (tF (F 47) (I 48) (I 49)) ((tT (F 47) (I 48) (I 49)) - tF (F 47) (I 48) (I 49)).toNat) = va_up (va_up (va_up (va_up (va_up I 49 (tT (F 47) (I 48) (I 49))) 51 (tF (F 47) (I 48) (I 49))) 52 (numM (F 47) (tF (F 47) (I 48) (I 49)) ((tT (F 47) (I 48) (I 49)) - tF (F 47) (I 48) (I 49)).toNat)) 50 0) 50 1 := by
              funext i
              by_cases g49 : i = 49
              · subst g49; simp [va_up]
              by_cases g50 : i = 50
              · subst g50; simp [va_up]
              by_cases g51 : i = 51
              · subst g51; simp [va_up]
              by_cases g52 : i = 52
              · subst g52; simp [va_up]
              simp [va_up, g49, g50, g51, g52]
            exact m_vret hC hQ hr hlk hM hS dX2_next_338 (⟨by rw [eT, eK, eV]; exact eI, rfl⟩)
          have eI0 : va_up (va_up (va_up (va_up I 49 (tF (F 47) (I 48) (I 49))) 51 (tF (F 47) (I 48) (I 49))) 52 0) 50 0 = va_up (va_up (va_up (va_up I 49 (tF (F 47) (I 48) (I 49))) 51 (tF (F 47) (I 48) (I 49))) 52 0) 50 0 := by
            funext i
            by_cases g49 : i = 49
            · subst g49; simp [va_up]
            by_cases g50 : i = 50
            · subst g50; simp [va_up]
            by_cases g51 : i = 51
            · subst g51; simp [va_up]
            by_cases g52 : i = 52
            · subst g52; simp [va_up]
            simp [va_up, g49, g50, g51, g52]
          rw [eI0] at hM
          have loop155_14 : ∀ (n : Nat) (q v : Int) (I1 : Nat → Int), I 48 - q < (n : Int) → tF (F 47) (I 48) (I 49) ≤ q → q ≤ I 48 → rn (fDi (F 47)) (I 48) q = rn (fDi (F 47)) (I 48) (tF (F 47) (I 48) (I 49)) → v = numM (F 47) (tF (F 47) (I 48) (I 49)) (q - tF (F 47) (I 48) (I 49)).toNat → (∀ j, tF (F 47) (I 48) (I 49) ≤ j → j < q → 48 ≤ F 47 j ∧ F 47 j ≤ 57) → I1 = va_up (va_up (va_up (va_up I 49 q) 51 (tF (F 47) (I 48) (I 49))) 52 v) 50 0 → ∀ (H : Heap) (locs : List Loc) (ls : Array Slot), MW D E A h ad I1 F H → va_S A s.heap H locs → lv_has ls 2 [(0, .ref h)] → W p l e R s m args below meth c H locs 0 0 Q (F0 m 155 ls []) := by
            intro n
            induction n with
            | zero => intro q v I1 hn16 hq0 hq1 hrq ev hdg eI; exfalso; omega
            | succ n ih15 =>
              intro q v I1 hn16 hq0 hq1 hrq ev hdg eI H locs ls hM hS hl
              subst eI
              have hv := (num_rel (F 47) (tF (F 47) (I 48) (I 49)) (q - tF (F 47) (I 48) (I 49)).toNat (fun j hj => hdg (tF (F 47) (I 48) (I 49) + j) (by omega) (by omega))).1
              rw [← ev] at hv
              refine lv_aload_n hx hb dX2_next_155 rfl (lv_at hl 0 rfl) ?_
              refine mg_49 (v := q) hC hM rfl dX2_next_156 ?_
              refine lv_aload_n hx hb dX2_next_159 rfl (lv_at hl 0 rfl) ?_
              refine mg_48 (v := I 48) hC hM rfl dX2_next_160 ?_
              refine r_icmp_ge (tgt := 234) hx hb dX2_next_163 (by decide) (by omega) (by omega) (fun c17 => ?_) (fun c17 => ?_)
              · exact k234  _ _ _  (by rw [show tT (F 47) (I 48) (I 49) = q from by rw [eTT, ← hrq, rn_e (by omega)], ← ev]; exact hM) hS (lv_sub hl [0] rfl)
              · have b47q := a47 q (by omega) (by omega)
                refine lv_aload_n hx hb dX2_next_166 rfl (lv_at hl 0 rfl) ?_
                refine mg_47 hC hM dX2_next_167 ?_
                refine lv_aload_n hx hb dX2_next_170 rfl (lv_at hl 0 rfl) ?_
                refine mg_49 (v := q) hC hM rfl dX2_next_171 ?_
                refine ml_47 (v := F 47 q) hC hM (by omega) rfl dX2_next_174 ?_
                refine s_calli (kX2_X2_isDigit (rest := []) (as := [.int (iI (F 47 q))]) hx hb hml hown hts (met_isDigit l (F 47 q) (by omega)) ⟨rfl, rfl⟩ hR (by decide) rfl hl.1 rfl (Nat.le_of_ble_eq_true rfl) dX2_next_175) ?_
                refine r_ifeqB (tgt := 234) hx hb dX2_next_178 (by decide) (fun cq => ?_) (fun cq => ?_)
                · exact k234  _ _ _  (by rw [show tT (F 47) (I 48) (I 49) = q from by rw [eTT, ← hrq, rn_e (fun z => cq (of_decide_eq_true z.2))], ← ev]; exact hM) hS (lv_sub hl [0] rfl)
                · refine lv_aload_n hx hb dX2_next_181 rfl (lv_at hl 0 rfl) ?_
                  refine lv_aload_n hx hb dX2_next_182 rfl (lv_at hl 0 rfl) ?_
                  refine mg_52 (v := v) hC hM rfl dX2_next_183 ?_
                  refine r_ldc hx hb 1000000 hown (hts _ q1341) (by decide) dX2_next_186 ?_
                  have jn18 : W p l e R s m args below meth c H locs 0 0 Q (F0 m 218 ls [.int (iI (if 1000000 < v then v else 10 * v + F 47 q - 48)), .ref h]) := by
                    refine mp_52 hC hM hS dX2_next_218 (fun H locs hM hS => ?_)
                    refine lv_aload_n hx hb dX2_next_221 rfl (lv_at hl 0 rfl) ?_
                    refine lv_dup hx hb dX2_next_222 rfl ?_
                    refine mg_49 (v := q) hC hM rfl dX2_next_223 ?_
                    refine r_iconst hx hb dX2_next_226 ?_
                    refine r_iadd hx hb dX2_next_227 ?_
                    refine mp_49 hC hM hS dX2_next_228 (fun H locs hM hS => ?_)
                    refine lv_goto (tgt := 155) hx hb dX2_next_231 (by decide) ?_
                    have eI1 : va_up (va_up (va_up (va_up I 49 (q + 1)) 51 (tF (F 47) (I 48) (I 49))) 52 (if 1000000 < v then v else 10 * v + F 47 q - 48)) 50 0 = va_up (va_up (va_up (va_up (va_up (va_up I 49 q) 51 (tF (F 47) (I 48) (I 49))) 52 v) 50 0) 52 (if 1000000 < v then v else 10 * v + F 47 q - 48)) 49 (q + 1) := by
                      funext i
                      by_cases g49 : i = 49
                      · subst g49; simp [va_up]
                      by_cases g50 : i = 50
                      · subst g50; simp [va_up]
                      by_cases g51 : i = 51
                      · subst g51; simp [va_up]
                      by_cases g52 : i = 52
                      · subst g52; simp [va_up]
                      simp [va_up, g49, g50, g51, g52]
                    exact ih15 (q + 1) (if 1000000 < v then v else 10 * v + F 47 q - 48) (va_up (va_up (va_up (va_up (va_up (va_up I 49 q) 51 (tF (F 47) (I 48) (I 49))) 52 v) 50 0) 52 (if 1000000 < v then v else 10 * v + F 47 q - 48)) 49 (q + 1)) (by omega) (by omega) (by omega) (by rw [← hrq, rn_s (p := q) (by omega) (decide_eq_true cq)]) (by rw [show q + 1 - tF (F 47) (I 48) (I 49) = q - tF (F 47) (I 48) (I 49) + 1 by omega, numM_s _ _ (by omega), ← ev, show tF (F 47) (I 48) (I 49) + (q - tF (F 47) (I 48) (I 49)) = q by omega]) (fun j j0 j1 => by by_cases hj : j = q; rw [hj]; exact cq; exact hdg j j0 (by omega)) eI1.symm _ _ _ hM hS (lv_sub hl [0] rfl)
                  refine r_icmp_le (tgt := 198) hx hb dX2_next_188 (by decide) (by omega) (by decide) (fun c19 => ?_) (fun c19 => ?_)
                  · refine r_bipush hx hb dX2_next_198 (by decide) ?_
                    refine lv_aload_n hx hb dX2_next_200 rfl (lv_at hl 0 rfl) ?_
                    refine mg_52 (v := v) hC hM rfl dX2_next_201 ?_
                    refine r_imul hx hb dX2_next_204 ?_
                    refine lv_aload_n hx hb dX2_next_205 rfl (lv_at hl 0 rfl) ?_
                    refine mg_47 hC hM dX2_next_206 ?_
                    refine lv_aload_n hx hb dX2_next_209 rfl (lv_at hl 0 rfl) ?_
                    refine mg_49 (v := q) hC hM rfl dX2_next_210 ?_
                    refine ml_47 (v := F 47 q) hC hM (by omega) rfl dX2_next_213 ?_
                    refine r_iadd hx hb dX2_next_214 ?_
                    refine r_bipush hx hb dX2_next_215 (by decide) ?_
                    refine r_isub hx hb dX2_next_217 ?_
                    rw [if_neg (by omega)] at jn18
                    exact jn18
                  · refine lv_aload_n hx hb dX2_next_191 rfl (lv_at hl 0 rfl) ?_
                    refine mg_52 (v := v) hC hM rfl dX2_next_192 ?_
                    refine lv_goto (tgt := 218) hx hb dX2_next_195 (by decide) ?_
                    rw [if_pos (by omega)] at jn18
                    exact jn18
          exact loop155_14 ((I 48 - (tF (F 47) (I 48) (I 49)) : Int).toNat + 1) (tF (F 47) (I 48) (I 49)) 0 (va_up (va_up (va_up (va_up I 49 (tF (F 47) (I 48) (I 49))) 51 (tF (F 47) (I 48) (I 49))) 52 0) 50 0) (by omega) (by omega) (by omega) rfl (by rw [show tF (F 47) (I 48) (I 49) - tF (F 47) (I 48) (I 49) = 0 by omega]; rfl) (fun j j0 j1 => by omega) rfl _ _ _ hM hS (lv_sub hl [1] rfl)
      · have hle : fLe (F 47) (tF (F 47) (I 48) (I 49)) = true := decide_eq_true (by rw [eb]; exact cl)
        have eTT : tT (F 47) (I 48) (I 49) = rn (fLe (F 47)) (I 48) (tF (F 47) (I 48) (I 49)) := by unfold tT; rw [if_neg cn, if_pos hle]
        have eK : tK (F 47) (I 48) (I 49) = 2 := by unfold tK; rw [if_neg cn, if_pos hle]
        have k124 : ∀ (H : Heap) (locs : List Loc) (ls : Array Slot), MW D E A h ad (va_up (va_up (va_up (va_up I 49 (tT (F 47) (I 48) (I 49))) 51 (tF (F 47) (I 48) (I 49))) 52 0) 50 0) F H → va_S A s.heap H locs → lv_has ls 2 [(0, .ref h)] → W p l e R s m args below meth c H locs 0 0 Q (F0 m 124 ls []) := by
          intro H locs ls  hM hS hl
          refine lv_aload_n hx hb dX2_next_124 rfl (lv_at hl 0 rfl) ?_
          refine r_iconst hx hb dX2_next_125 ?_
          refine mp_50 hC hM hS dX2_next_126 (fun H locs hM hS => ?_)
          refine lv_aload_n hx hb dX2_next_129 rfl (lv_at hl 0 rfl) ?_
          refine lv_aload_n hx hb dX2_next_130 rfl (lv_at hl 0 rfl) ?_
          refine lv_aload_n hx hb dX2_next_131 rfl (lv_at hl 0 rfl) ?_
          refine mg_51 (v := tF (F 47) (I 48) (I 49)) hC hM rfl dX2_next_132 ?_
          refine lv_aload_n hx hb dX2_next_135 rfl (lv_at hl 0 rfl) ?_
          refine mg_49 (v := tT (F 47) (I 48) (I 49)) hC hM rfl dX2_next_136 ?_
          refine m_calli (m_runE (n := 2) (rest := [.ref h]) (as := [.int (iI (tF (F 47) (I 48) (I 49))), .int (iI (tT (F 47) (I 48) (I 49)))]) hC hml (met_wordAt l adK adV st D E A h ad (va_up (va_up (va_up (va_up (va_up I 49 (tT (F 47) (I 48) (I 49))) 51 (tF (F 47) (I 48) (I 49))) 52 0) 50 0) 50 2) F (tF (F 47) (I 48) (I 49)) (tT (F 47) (I 48) (I 49)) (by omega) gl0) q1395 q1397 qs48 q73 q1398 (by decide +kernel) ⟨rfl, rfl⟩ hR (by decide) ⟨Nat.zero_le _, Nat.zero_le _⟩ hM hE hS rfl hl.1 rfl (Nat.le_of_ble_eq_true rfl) dX2_next_139) hS (fun z20 I21 F22 H locs hp23 hM hS => ?_)
          obtain ⟨rfl, rfl, rfl⟩ := hp23
          refine W.eq (g2 := F0 m 142 ls [.int (iI (wId (F 47) (tF (F 47) (I 48) (I 49)) (tT (F 47) (I 48) (I 49)))), .ref h]) rfl ?_
          refine mp_52 hC hM hS dX2_next_142 (fun H locs hM hS => ?_)
          refine lv_goto (tgt := 338) hx hb dX2_next_145 (by decide) ?_
          have eT : tT (F 47) (I 48) (I 49) = tT (F 47) (I 48) (I 49) := rfl
          have eK : tK (F 47) (I 48) (I 49) = 2 := eK
          have eV : tV (F 47) (I 48) (I 49) = wId (F 47) (tF (F 47) (I 48) (I 49)) (tT (F 47) (I 48) (I 49)) := by unfold tV; rw [if_pos eK]
          have eI : va_up (va_up (va_up (va_up I 49 (tT (F 47) (I 48) (I 49))) 50 (2)) 51 (tF (F 47) (I 48) (I 49))) 52 (wId (F 47) (tF (F 47) (I 48) (I 49)) (tT (F 47) (I 48) (I 49))) = va_up (va_up (va_up (va_up (va_up (va_up I 49 (tT (F 47) (I 48) (I 49))) 51 (tF (F 47) (I 48) (I 49))) 52 0) 50 0) 50 2) 52 (wId (F 47) (tF (F 47) (I 48) (I 49)) (tT (F 47) (I 48) (I 49))) := by
            funext i
            by_cases g49 : i = 49
            · subst g49; simp [va_up]
            by_cases g50 : i = 50
            · subst g50; simp [va_up]
            by_cases g51 : i = 51
            · subst g51; simp [va_up]
            by_cases g52 : i = 52
            · subst g52; simp [va_up]
            simp [va_up, g49, g50, g51, g52]
          exact m_vret hC hQ hr hlk hM hS dX2_next_338 (⟨by rw [eT, eK, eV]; exact eI, rfl⟩)
        have eI0 : va_up (va_up (va_up (va_up I 49 (tF (F 47) (I 48) (I 49))) 51 (tF (F 47) (I 48) (I 49))) 52 0) 50 0 = va_up (va_up (va_up (va_up I 49 (tF (F 47) (I 48) (I 49))) 51 (tF (F 47) (I 48) (I 49))) 52 0) 50 0 := by
          funext i
          by_cases g49 : i = 49
          · subst g49; simp [va_up]
          by_cases g50 : i = 50
          · subst g50; simp [va_up]
          by_cases g51 : i = 51
          · subst g51; simp [va_up]
          by_cases g52 : i = 52
          · subst g52; simp [va_up]
          simp [va_up, g49, g50, g51, g52]
        rw [eI0] at hM
        have loop85_24 : ∀ (n : Nat) (q : Int) (I1 : Nat → Int), I 48 - q < (n : Int) → tF (F 47) (I 48) (I 49) ≤ q → q ≤ I 48 → rn (fLe (F 47)) (I 48) q = rn (fLe (F 47)) (I 48) (tF (F 47) (I 48) (I 49)) → I1 = va_up (va_up (va_up (va_up I 49 q) 51 (tF (F 47) (I 48) (I 49))) 52 0) 50 0 → ∀ (H : Heap) (locs : List Loc) (ls : Array Slot), MW D E A h ad I1 F H → va_S A s.heap H locs → lv_has ls 2 [(0, .ref h)] → W p l e R s m args below meth c H locs 0 0 Q (F0 m 85 ls []) := by
          intro n
          induction n with
          | zero => intro q I1 hn26 hq0 hq1 hrq eI; exfalso; omega
          | succ n ih25 =>
            intro q I1 hn26 hq0 hq1 hrq eI H locs ls hM hS hl
            subst eI
            refine lv_aload_n hx hb dX2_next_85 rfl (lv_at hl 0 rfl) ?_
            refine mg_49 (v := q) hC hM rfl dX2_next_86 ?_
            refine lv_aload_n hx hb dX2_next_89 rfl (lv_at hl 0 rfl) ?_
            refine mg_48 (v := I 48) hC hM rfl dX2_next_90 ?_
            refine r_icmp_ge (tgt := 124) hx hb dX2_next_93 (by decide) (by omega) (by omega) (fun c27 => ?_) (fun c27 => ?_)
            · exact k124  _ _ _  (by rw [show tT (F 47) (I 48) (I 49) = q from by rw [eTT, ← hrq, rn_e (by omega)]]; exact hM) hS (lv_sub hl [0] rfl)
            · have b47q := a47 q (by omega) (by omega)
              refine lv_aload_n hx hb dX2_next_96 rfl (lv_at hl 0 rfl) ?_
              refine mg_47 hC hM dX2_next_97 ?_
              refine lv_aload_n hx hb dX2_next_100 rfl (lv_at hl 0 rfl) ?_
              refine mg_49 (v := q) hC hM rfl dX2_next_101 ?_
              refine ml_47 (v := F 47 q) hC hM (by omega) rfl dX2_next_104 ?_
              refine s_calli (kX2_X2_isLetter (rest := []) (as := [.int (iI (F 47 q))]) hx hb hml hown hts (met_isLetter l (F 47 q) (by omega)) ⟨rfl, rfl⟩ hR (by decide) rfl hl.1 rfl (Nat.le_of_ble_eq_true rfl) dX2_next_105) ?_
              refine r_ifeqB (tgt := 124) hx hb dX2_next_108 (by decide) (fun cq => ?_) (fun cq => ?_)
              · exact k124  _ _ _  (by rw [show tT (F 47) (I 48) (I 49) = q from by rw [eTT, ← hrq, rn_e (fun z => cq (of_decide_eq_true z.2))]]; exact hM) hS (lv_sub hl [0] rfl)
              · refine lv_aload_n hx hb dX2_next_111 rfl (lv_at hl 0 rfl) ?_
                refine lv_dup hx hb dX2_next_112 rfl ?_
                refine mg_49 (v := q) hC hM rfl dX2_next_113 ?_
                refine r_iconst hx hb dX2_next_116 ?_
                refine r_iadd hx hb dX2_next_117 ?_
                refine mp_49 hC hM hS dX2_next_118 (fun H locs hM hS => ?_)
                refine lv_goto (tgt := 85) hx hb dX2_next_121 (by decide) ?_
                have eI1 : va_up (va_up (va_up (va_up I 49 (q + 1)) 51 (tF (F 47) (I 48) (I 49))) 52 0) 50 0 = va_up (va_up (va_up (va_up (va_up I 49 q) 51 (tF (F 47) (I 48) (I 49))) 52 0) 50 0) 49 (q + 1) := by
                  funext i
                  by_cases g49 : i = 49
                  · subst g49; simp [va_up]
                  by_cases g50 : i = 50
                  · subst g50; simp [va_up]
                  by_cases g51 : i = 51
                  · subst g51; simp [va_up]
                  by_cases g52 : i = 52
                  · subst g52; simp [va_up]
                  simp [va_up, g49, g50, g51, g52]
                exact ih25 (q + 1) (va_up (va_up (va_up (va_up (va_up I 49 q) 51 (tF (F 47) (I 48) (I 49))) 52 0) 50 0) 49 (q + 1)) (by omega) (by omega) (by omega) (by rw [← hrq, rn_s (p := q) (by omega) (decide_eq_true cq)]) eI1.symm _ _ _ hM hS (lv_sub hl [0] rfl)
        exact loop85_24 ((I 48 - (tF (F 47) (I 48) (I 49)) : Int).toNat + 1) (tF (F 47) (I 48) (I 49)) (va_up (va_up (va_up (va_up I 49 (tF (F 47) (I 48) (I 49))) 51 (tF (F 47) (I 48) (I 49))) 52 0) 50 0) (by omega) (by omega) (by omega) rfl rfl _ _ _ hM hS (lv_sub hl [1] rfl)
    · have c0 : tF (F 47) (I 48) (I 49) = I 48 := cn
      have eT : tT (F 47) (I 48) (I 49) = tF (F 47) (I 48) (I 49) := by unfold tT; rw [if_pos c0, c0]
      have eK : tK (F 47) (I 48) (I 49) = 0 := if_pos c0
      have eV : tV (F 47) (I 48) (I 49) = 0 := by unfold tV; rw [if_neg (show ¬ tK (F 47) (I 48) (I 49) = 2 by unfold tK; rw [if_pos c0]; decide), if_neg (show ¬ tK (F 47) (I 48) (I 49) = 1 by unfold tK; rw [if_pos c0]; decide), if_pos (show tK (F 47) (I 48) (I 49) = 0 from if_pos c0)]
      have eI : va_up (va_up (va_up (va_up I 49 (tF (F 47) (I 48) (I 49))) 50 (0)) 51 (tF (F 47) (I 48) (I 49))) 52 (0) = va_up (va_up (va_up (va_up I 49 (tF (F 47) (I 48) (I 49))) 51 (tF (F 47) (I 48) (I 49))) 52 0) 50 0 := by
        funext i
        by_cases g49 : i = 49
        · subst g49; simp [va_up]
        by_cases g50 : i = 50
        · subst g50; simp [va_up]
        by_cases g51 : i = 51
        · subst g51; simp [va_up]
        by_cases g52 : i = 52
        · subst g52; simp [va_up]
        simp [va_up, g49, g50, g51, g52]
      exact m_vret hC hQ hr hlk hM hS dX2_next_67 (⟨by rw [eT, eK, eV]; exact eI, rfl⟩)
  have loop0_28 : ∀ (n : Nat) (q : Int) (I1 : Nat → Int), I 48 - q < (n : Int) → I 49 ≤ q → q ≤ I 48 → rn (fSp (F 47)) (I 48) q = rn (fSp (F 47)) (I 48) (I 49) → I1 = va_up I 49 q → ∀ (H : Heap) (locs : List Loc) (ls : Array Slot), MW D E A h ad I1 F H → va_S A s.heap H locs → lv_has ls 2 [(0, .ref h)] → W p l e R s m args below meth c H locs 0 0 Q (F0 m 0 ls []) := by
    intro n
    induction n with
    | zero => intro q I1 hn30 hq0 hq1 hrq eI; exfalso; omega
    | succ n ih29 =>
      intro q I1 hn30 hq0 hq1 hrq eI H locs ls hM hS hl
      subst eI
      refine lv_aload_n hx hb dX2_next_0 rfl (lv_at hl 0 rfl) ?_
      refine mg_49 (v := q) hC hM rfl dX2_next_1 ?_
      refine lv_aload_n hx hb dX2_next_4 rfl (lv_at hl 0 rfl) ?_
      refine mg_48 (v := I 48) hC hM rfl dX2_next_5 ?_
      refine r_icmp_ge (tgt := 38) hx hb dX2_next_8 (by decide) (by omega) (by omega) (fun c31 => ?_) (fun c31 => ?_)
      · exact k38  _ _ _  (by rw [show tF (F 47) (I 48) (I 49) = q from by unfold tF; rw [← hrq, rn_e (by omega)]]; exact hM) hS (lv_sub hl [0] rfl)
      · have b47q := a47 q (by omega) (by omega)
        refine lv_aload_n hx hb dX2_next_11 rfl (lv_at hl 0 rfl) ?_
        refine mg_47 hC hM dX2_next_12 ?_
        refine lv_aload_n hx hb dX2_next_15 rfl (lv_at hl 0 rfl) ?_
        refine mg_49 (v := q) hC hM rfl dX2_next_16 ?_
        refine ml_47 (v := F 47 q) hC hM (by omega) rfl dX2_next_19 ?_
        refine r_bipush hx hb dX2_next_20 (by decide) ?_
        refine r_icmp_ne (tgt := 38) hx hb dX2_next_22 (by decide) (by omega) (by decide) (fun cq => ?_) (fun cq => ?_)
        · exact k38  _ _ _  (by rw [show tF (F 47) (I 48) (I 49) = q from by unfold tF; rw [← hrq, rn_e (fun z => cq (of_decide_eq_true z.2))]]; exact hM) hS (lv_sub hl [0] rfl)
        · refine lv_aload_n hx hb dX2_next_25 rfl (lv_at hl 0 rfl) ?_
          refine lv_dup hx hb dX2_next_26 rfl ?_
          refine mg_49 (v := q) hC hM rfl dX2_next_27 ?_
          refine r_iconst hx hb dX2_next_30 ?_
          refine r_iadd hx hb dX2_next_31 ?_
          refine mp_49 hC hM hS dX2_next_32 (fun H locs hM hS => ?_)
          refine lv_goto (tgt := 0) hx hb dX2_next_35 (by decide) ?_
          have eI1 : va_up I 49 (q + 1) = va_up (va_up I 49 q) 49 (q + 1) := by
            funext i
            by_cases g49 : i = 49
            · subst g49; simp [va_up]
            simp [va_up, g49]
          exact ih29 (q + 1) (va_up (va_up I 49 q) 49 (q + 1)) (by omega) (by omega) (by omega) (by rw [← hrq, rn_s (p := q) (by omega) (decide_eq_true cq)]) eI1.symm _ _ _ hM hS (lv_sub hl [0] rfl)
  exact loop0_28 ((I 48 - (I 49) : Int).toNat + 1) (I 49) I (by omega) (by omega) (by omega) rfl (up_self I 49).symm _ _ _ hM hS (lv_sub hl [0] rfl)
theorem dX2_isSign_0 : decode cX2_isSign 0 = .ok (.aload_n 0, 1) := by decide +kernel
theorem dX2_isSign_1 : decode cX2_isSign 1 = .ok (.getfield 282, 3) := by decide +kernel
theorem dX2_isSign_4 : decode cX2_isSign 4 = .ok (.iconst 3, 1) := by decide +kernel
theorem dX2_isSign_5 : decode cX2_isSign 5 = .ok (.if_icmp .ne 15, 3) := by decide +kernel
theorem dX2_isSign_8 : decode cX2_isSign 8 = .ok (.aload_n 0, 1) := by decide +kernel
theorem dX2_isSign_9 : decode cX2_isSign 9 = .ok (.getfield 279, 3) := by decide +kernel
theorem dX2_isSign_12 : decode cX2_isSign 12 = .ok (.iload_n 1, 1) := by decide +kernel
theorem dX2_isSign_13 : decode cX2_isSign 13 = .ok (.if_icmp .ne 7, 3) := by decide +kernel
theorem dX2_isSign_16 : decode cX2_isSign 16 = .ok (.iconst 1, 1) := by decide +kernel
theorem dX2_isSign_17 : decode cX2_isSign 17 = .ok (.goto 4, 3) := by decide +kernel
theorem dX2_isSign_20 : decode cX2_isSign 20 = .ok (.iconst 0, 1) := by decide +kernel
theorem dX2_isSign_21 : decode cX2_isSign 21 = .ok (.ireturn, 1) := by decide +kernel
set_option maxHeartbeats 4000000 in
theorem met_isSign (l : Launch) (D : va_G) (E : Nat → ClassId) (A : Nat → Prop) (h : Nat) (ad : Nat → Nat) (I : Nat → Int) (F : Nat → Int → Int) (cz : Int) (r_c : R32 cz) (r50 : R32 (I 50)) (r52 : R32 (I 52)) : MM l yX2_isSign cX2_isSign 2 (some .boolean) (mrm 0) D E A h ad [.int (iI cz)] I F (MQi D E A h ad (fun z I1 F1 => (if I 50 = 3 ∧ I 52 = cz then 1 else 0) = z ∧ I = I1 ∧ F = F1)) := by
  refine m_start (by decide) rfl (Nat.le_of_ble_eq_true rfl) ?_
  intro p e R s m args below meth c ls Q hR hQ hC hml hr hlk hM hS hl
  have hx := hC.1
  have hb := hC.2.1
  have hown := hC.2.2.1
  have hts := hC.2.2.2.1
  have hl : lv_has ls 2 [(0, .ref h), (1, .int (iI cz))] := hl
  refine lv_aload_n hx hb dX2_isSign_0 rfl (lv_at hl 0 rfl) ?_
  refine mg_50 (v := I 50) hC hM rfl dX2_isSign_1 ?_
  refine r_iconst hx hb dX2_isSign_4 ?_
  refine r_icmp_ne (tgt := 20) hx hb dX2_isSign_5 (by decide) r50 (by decide) (fun c1 => ?_) (fun c1 => ?_)
  · refine r_iconst hx hb dX2_isSign_20 ?_
    exact m_zret hC hQ hr hlk hM hS (by decide) dX2_isSign_21 (⟨by split <;> omega, rfl, rfl⟩)
  · refine lv_aload_n hx hb dX2_isSign_8 rfl (lv_at hl 0 rfl) ?_
    refine mg_52 (v := I 52) hC hM rfl dX2_isSign_9 ?_
    refine lv_iload_n hx hb dX2_isSign_12 rfl (lv_at hl 1 rfl) ?_
    refine r_icmp_ne (tgt := 20) hx hb dX2_isSign_13 (by decide) r52 r_c (fun c2 => ?_) (fun c2 => ?_)
    · refine r_iconst hx hb dX2_isSign_20 ?_
      exact m_zret hC hQ hr hlk hM hS (by decide) dX2_isSign_21 (⟨by split <;> omega, rfl, rfl⟩)
    · refine r_iconst hx hb dX2_isSign_16 ?_
      refine lv_goto (tgt := 21) hx hb dX2_isSign_17 (by decide) ?_
      exact m_zret hC hQ hr hlk hM hS (by decide) dX2_isSign_21 (⟨by split <;> omega, rfl, rfl⟩)
theorem dX2_isWord_0 : decode cX2_isWord 0 = .ok (.aload_n 0, 1) := by decide +kernel
theorem dX2_isWord_1 : decode cX2_isWord 1 = .ok (.getfield 282, 3) := by decide +kernel
theorem dX2_isWord_4 : decode cX2_isWord 4 = .ok (.iconst 2, 1) := by decide +kernel
theorem dX2_isWord_5 : decode cX2_isWord 5 = .ok (.if_icmp .ne 15, 3) := by decide +kernel
theorem dX2_isWord_8 : decode cX2_isWord 8 = .ok (.aload_n 0, 1) := by decide +kernel
theorem dX2_isWord_9 : decode cX2_isWord 9 = .ok (.getfield 279, 3) := by decide +kernel
theorem dX2_isWord_12 : decode cX2_isWord 12 = .ok (.iload_n 1, 1) := by decide +kernel
theorem dX2_isWord_13 : decode cX2_isWord 13 = .ok (.if_icmp .ne 7, 3) := by decide +kernel
theorem dX2_isWord_16 : decode cX2_isWord 16 = .ok (.iconst 1, 1) := by decide +kernel
theorem dX2_isWord_17 : decode cX2_isWord 17 = .ok (.goto 4, 3) := by decide +kernel
theorem dX2_isWord_20 : decode cX2_isWord 20 = .ok (.iconst 0, 1) := by decide +kernel
theorem dX2_isWord_21 : decode cX2_isWord 21 = .ok (.ireturn, 1) := by decide +kernel
set_option maxHeartbeats 4000000 in
theorem met_isWord (l : Launch) (D : va_G) (E : Nat → ClassId) (A : Nat → Prop) (h : Nat) (ad : Nat → Nat) (I : Nat → Int) (F : Nat → Int → Int) (cz : Int) (r_c : R32 cz) (r50 : R32 (I 50)) (r52 : R32 (I 52)) : MM l yX2_isWord cX2_isWord 2 (some .boolean) (mrm 0) D E A h ad [.int (iI cz)] I F (MQi D E A h ad (fun z I1 F1 => (if I 50 = 2 ∧ I 52 = cz then 1 else 0) = z ∧ I = I1 ∧ F = F1)) := by
  refine m_start (by decide) rfl (Nat.le_of_ble_eq_true rfl) ?_
  intro p e R s m args below meth c ls Q hR hQ hC hml hr hlk hM hS hl
  have hx := hC.1
  have hb := hC.2.1
  have hown := hC.2.2.1
  have hts := hC.2.2.2.1
  have hl : lv_has ls 2 [(0, .ref h), (1, .int (iI cz))] := hl
  refine lv_aload_n hx hb dX2_isWord_0 rfl (lv_at hl 0 rfl) ?_
  refine mg_50 (v := I 50) hC hM rfl dX2_isWord_1 ?_
  refine r_iconst hx hb dX2_isWord_4 ?_
  refine r_icmp_ne (tgt := 20) hx hb dX2_isWord_5 (by decide) r50 (by decide) (fun c1 => ?_) (fun c1 => ?_)
  · refine r_iconst hx hb dX2_isWord_20 ?_
    exact m_zret hC hQ hr hlk hM hS (by decide) dX2_isWord_21 (⟨by split <;> omega, rfl, rfl⟩)
  · refine lv_aload_n hx hb dX2_isWord_8 rfl (lv_at hl 0 rfl) ?_
    refine mg_52 (v := I 52) hC hM rfl dX2_isWord_9 ?_
    refine lv_iload_n hx hb dX2_isWord_12 rfl (lv_at hl 1 rfl) ?_
    refine r_icmp_ne (tgt := 20) hx hb dX2_isWord_13 (by decide) r52 r_c (fun c2 => ?_) (fun c2 => ?_)
    · refine r_iconst hx hb dX2_isWord_20 ?_
      exact m_zret hC hQ hr hlk hM hS (by decide) dX2_isWord_21 (⟨by split <;> omega, rfl, rfl⟩)
    · refine r_iconst hx hb dX2_isWord_16 ?_
      refine lv_goto (tgt := 21) hx hb dX2_isWord_17 (by decide) ?_
      exact m_zret hC hQ hr hlk hM hS (by decide) dX2_isWord_21 (⟨by split <;> omega, rfl, rfl⟩)
theorem dX2_push_0 : decode cX2_push 0 = .ok (.aload_n 0, 1) := by decide +kernel
theorem dX2_push_1 : decode cX2_push 1 = .ok (.getfield 130, 3) := by decide +kernel
theorem dX2_push_4 : decode cX2_push 4 = .ok (.aload_n 0, 1) := by decide +kernel
theorem dX2_push_5 : decode cX2_push 5 = .ok (.getfield 294, 3) := by decide +kernel
theorem dX2_push_8 : decode cX2_push 8 = .ok (.iload_n 1, 1) := by decide +kernel
theorem dX2_push_9 : decode cX2_push 9 = .ok (.iastore, 1) := by decide +kernel
theorem dX2_push_10 : decode cX2_push 10 = .ok (.aload_n 0, 1) := by decide +kernel
theorem dX2_push_11 : decode cX2_push 11 = .ok (.dup, 1) := by decide +kernel
theorem dX2_push_12 : decode cX2_push 12 = .ok (.getfield 294, 3) := by decide +kernel
theorem dX2_push_15 : decode cX2_push 15 = .ok (.iconst 1, 1) := by decide +kernel
theorem dX2_push_16 : decode cX2_push 16 = .ok (.iadd, 1) := by decide +kernel
theorem dX2_push_17 : decode cX2_push 17 = .ok (.putfield 294, 3) := by decide +kernel
theorem dX2_push_20 : decode cX2_push 20 = .ok (.return_, 1) := by decide +kernel
set_option maxHeartbeats 4000000 in
theorem met_push (l : Launch) (D : va_G) (E : Nat → ClassId) (A : Nat → Prop) (h : Nat) (ad : Nat → Nat) (I : Nat → Int) (F : Nat → Int → Int) (sz : Int) (h54 : 0 ≤ I 54 ∧ I 54 < 600) : MM l yX2_push cX2_push 2 none (mrm 0) D E A h ad [.int (iI sz)] I F (MQv D E A h ad (fun I1 F1 => va_up I 54 (I 54 + 1) = I1 ∧ upF F 53 (I 54) sz = F1)) := by
  refine m_start (by decide) rfl (Nat.le_of_ble_eq_true rfl) ?_
  intro p e R s m args below meth c ls Q hR hQ hC hml hr hlk hM hS hl
  have hx := hC.1
  have hb := hC.2.1
  have hown := hC.2.2.1
  have hts := hC.2.2.2.1
  have hl : lv_has ls 2 [(0, .ref h), (1, .int (iI sz))] := hl
  refine lv_aload_n hx hb dX2_push_0 rfl (lv_at hl 0 rfl) ?_
  refine mg_53 hC hM dX2_push_1 ?_
  refine lv_aload_n hx hb dX2_push_4 rfl (lv_at hl 0 rfl) ?_
  refine mg_54 (v := I 54) hC hM rfl dX2_push_5 ?_
  refine lv_iload_n hx hb dX2_push_8 rfl (lv_at hl 1 rfl) ?_
  refine ms_53 (v := sz) hC hM hS (by omega) dX2_push_9 (fun H locs hM hS => ?_)
  refine lv_aload_n hx hb dX2_push_10 rfl (lv_at hl 0 rfl) ?_
  refine lv_dup hx hb dX2_push_11 rfl ?_
  refine mg_54 (v := I 54) hC hM rfl dX2_push_12 ?_
  refine r_iconst hx hb dX2_push_15 ?_
  refine r_iadd hx hb dX2_push_16 ?_
  refine mp_54 hC hM hS dX2_push_17 (fun H locs hM hS => ?_)
  exact m_vret hC hQ hr hlk hM hS dX2_push_20 (⟨rfl, rfl⟩)
theorem dX2_emits_0 : decode cX2_emits 0 = .ok (.aload_n 0, 1) := by decide +kernel
theorem dX2_emits_1 : decode cX2_emits 1 = .ok (.getfield 133, 3) := by decide +kernel
theorem dX2_emits_4 : decode cX2_emits 4 = .ok (.aload_n 0, 1) := by decide +kernel
theorem dX2_emits_5 : decode cX2_emits 5 = .ok (.getfield 297, 3) := by decide +kernel
theorem dX2_emits_8 : decode cX2_emits 8 = .ok (.iload_n 1, 1) := by decide +kernel
theorem dX2_emits_9 : decode cX2_emits 9 = .ok (.iastore, 1) := by decide +kernel
theorem dX2_emits_10 : decode cX2_emits 10 = .ok (.aload_n 0, 1) := by decide +kernel
theorem dX2_emits_11 : decode cX2_emits 11 = .ok (.getfield 136, 3) := by decide +kernel
theorem dX2_emits_14 : decode cX2_emits 14 = .ok (.aload_n 0, 1) := by decide +kernel
theorem dX2_emits_15 : decode cX2_emits 15 = .ok (.getfield 297, 3) := by decide +kernel
theorem dX2_emits_18 : decode cX2_emits 18 = .ok (.iload_n 2, 1) := by decide +kernel
theorem dX2_emits_19 : decode cX2_emits 19 = .ok (.iastore, 1) := by decide +kernel
theorem dX2_emits_20 : decode cX2_emits 20 = .ok (.aload_n 0, 1) := by decide +kernel
theorem dX2_emits_21 : decode cX2_emits 21 = .ok (.dup, 1) := by decide +kernel
theorem dX2_emits_22 : decode cX2_emits 22 = .ok (.getfield 297, 3) := by decide +kernel
theorem dX2_emits_25 : decode cX2_emits 25 = .ok (.iconst 1, 1) := by decide +kernel
theorem dX2_emits_26 : decode cX2_emits 26 = .ok (.iadd, 1) := by decide +kernel
theorem dX2_emits_27 : decode cX2_emits 27 = .ok (.putfield 297, 3) := by decide +kernel
theorem dX2_emits_30 : decode cX2_emits 30 = .ok (.return_, 1) := by decide +kernel
set_option maxHeartbeats 4000000 in
theorem met_emits (l : Launch) (D : va_G) (E : Nat → ClassId) (A : Nat → Prop) (h : Nat) (ad : Nat → Nat) (I : Nat → Int) (F : Nat → Int → Int) (da wi : Int) (h59 : 0 ≤ I 59 ∧ I 59 < 300) : MM l yX2_emits cX2_emits 3 none (mrm 0) D E A h ad [.int (iI da), .int (iI wi)] I F (MQv D E A h ad (fun I1 F1 => va_up I 59 (I 59 + 1) = I1 ∧ upF (upF F 57 (I 59) da) 58 (I 59) wi = F1)) := by
  refine m_start (by decide) rfl (Nat.le_of_ble_eq_true rfl) ?_
  intro p e R s m args below meth c ls Q hR hQ hC hml hr hlk hM hS hl
  have hx := hC.1
  have hb := hC.2.1
  have hown := hC.2.2.1
  have hts := hC.2.2.2.1
  have hl : lv_has ls 3 [(0, .ref h), (1, .int (iI da)), (2, .int (iI wi))] := hl
  refine lv_aload_n hx hb dX2_emits_0 rfl (lv_at hl 0 rfl) ?_
  refine mg_57 hC hM dX2_emits_1 ?_
  refine lv_aload_n hx hb dX2_emits_4 rfl (lv_at hl 0 rfl) ?_
  refine mg_59 (v := I 59) hC hM rfl dX2_emits_5 ?_
  refine lv_iload_n hx hb dX2_emits_8 rfl (lv_at hl 1 rfl) ?_
  refine ms_57 (v := da) hC hM hS (by omega) dX2_emits_9 (fun H locs hM hS => ?_)
  refine lv_aload_n hx hb dX2_emits_10 rfl (lv_at hl 0 rfl) ?_
  refine mg_58 hC hM dX2_emits_11 ?_
  refine lv_aload_n hx hb dX2_emits_14 rfl (lv_at hl 0 rfl) ?_
  refine mg_59 (v := I 59) hC hM rfl dX2_emits_15 ?_
  refine lv_iload_n hx hb dX2_emits_18 rfl (lv_at hl 2 rfl) ?_
  refine ms_58 (v := wi) hC hM hS (by omega) dX2_emits_19 (fun H locs hM hS => ?_)
  refine lv_aload_n hx hb dX2_emits_20 rfl (lv_at hl 0 rfl) ?_
  refine lv_dup hx hb dX2_emits_21 rfl ?_
  refine mg_59 (v := I 59) hC hM rfl dX2_emits_22 ?_
  refine r_iconst hx hb dX2_emits_25 ?_
  refine r_iadd hx hb dX2_emits_26 ?_
  refine mp_59 hC hM hS dX2_emits_27 (fun H locs hM hS => ?_)
  exact m_vret hC hQ hr hlk hM hS dX2_emits_30 (⟨rfl, rfl⟩)
theorem dX2_takes_0 : decode cX2_takes 0 = .ok (.aload_n 0, 1) := by decide +kernel
theorem dX2_takes_1 : decode cX2_takes 1 = .ok (.invokevirtual 300, 3) := by decide +kernel
theorem dX2_takes_4 : decode cX2_takes 4 = .ok (.iconst 1, 1) := by decide +kernel
theorem dX2_takes_5 : decode cX2_takes 5 = .ok (.ireturn, 1) := by decide +kernel
set_option maxHeartbeats 4000000 in
theorem met_takes (l : Launch) (adK adV st : Nat → Nat) (D : va_G) (E : Nat → ClassId) (A : Nat → Prop) (h : Nat) (ad : Nat → Nat) (I : Nat → Int) (F : Nat → Int → Int) (h49 : 0 ≤ I 49 ∧ I 49 ≤ I 48) (gl0 : gTxt I F) : ME l yX2_takes cX2_takes 1 (some .boolean) (mrm 6) adK adV st D E A h ad [] I F (MQi D E A h ad (fun z I1 F1 => 1 = z ∧ va_up (va_up (va_up (va_up I 49 (tT (F 47) (I 48) (I 49))) 50 (tK (F 47) (I 48) (I 49))) 51 (tF (F 47) (I 48) (I 49))) 52 (tV (F 47) (I 48) (I 49)) = I1 ∧ F = F1)) := by
  refine m_startE (by decide) rfl (Nat.le_of_ble_eq_true rfl) ?_
  intro p e R s m args below meth c ls Q hR hQ hC hml hr hlk hM hS hE hl
  have hx := hC.1
  have hb := hC.2.1
  have hown := hC.2.2.1
  have hts := hC.2.2.2.1
  have hl : lv_has ls 1 [(0, .ref h)] := hl
  refine lv_aload_n hx hb dX2_takes_0 rfl (lv_at hl 0 rfl) ?_
  refine m_callv (m_runE (n := 0) (rest := []) (as := []) hC hml (met_next l adK adV st D E A h ad I F (by omega) gl0) q1388 q1390 qs47 q73 q1391 (by decide +kernel) ⟨rfl, rfl⟩ hR (by decide) ⟨Nat.zero_le _, Nat.zero_le _⟩ hM hE hS rfl hl.1 rfl (Nat.le_of_ble_eq_true rfl) dX2_takes_1) hS (fun I2 F3 H locs hp4 hM hS => ?_)
  obtain ⟨rfl, rfl⟩ := hp4
  refine r_iconst hx hb dX2_takes_4 ?_
  exact m_zret hC hQ hr hlk hM hS (by decide) dX2_takes_5 (⟨rfl, rfl, rfl⟩)
