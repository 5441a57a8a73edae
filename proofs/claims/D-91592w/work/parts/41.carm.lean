/-! THE COMPONENT: the arm, a slope, weights -/
set_option maxRecDepth 100000
theorem dX0_arm_0 : decode cX0_arm 0 = .ok (.lconst 0, 1) := by decide +kernel
theorem dX0_arm_1 : decode cX0_arm 1 = .ok (.lstore 4, 2) := by decide +kernel
theorem dX0_arm_3 : decode cX0_arm 3 = .ok (.iconst 0, 1) := by decide +kernel
theorem dX0_arm_4 : decode cX0_arm 4 = .ok (.istore 6, 2) := by decide +kernel
theorem dX0_arm_6 : decode cX0_arm 6 = .ok (.iload 6, 2) := by decide +kernel
theorem dX0_arm_8 : decode cX0_arm 8 = .ok (.aload_n 0, 1) := by decide +kernel
theorem dX0_arm_9 : decode cX0_arm 9 = .ok (.getfield 34, 3) := by decide +kernel
theorem dX0_arm_12 : decode cX0_arm 12 = .ok (.invokevirtual 125, 3) := by decide +kernel
theorem dX0_arm_15 : decode cX0_arm 15 = .ok (.if_icmp .ge 85, 3) := by decide +kernel
theorem dX0_arm_18 : decode cX0_arm 18 = .ok (.aload_n 0, 1) := by decide +kernel
theorem dX0_arm_19 : decode cX0_arm 19 = .ok (.getfield 34, 3) := by decide +kernel
theorem dX0_arm_22 : decode cX0_arm 22 = .ok (.iload 6, 2) := by decide +kernel
theorem dX0_arm_24 : decode cX0_arm 24 = .ok (.invokevirtual 159, 3) := by decide +kernel
theorem dX0_arm_27 : decode cX0_arm 27 = .ok (.checkcast 129, 3) := by decide +kernel
theorem dX0_arm_30 : decode cX0_arm 30 = .ok (.astore 7, 2) := by decide +kernel
theorem dX0_arm_32 : decode cX0_arm 32 = .ok (.iconst 0, 1) := by decide +kernel
theorem dX0_arm_33 : decode cX0_arm 33 = .ok (.istore 8, 2) := by decide +kernel
theorem dX0_arm_35 : decode cX0_arm 35 = .ok (.iload 8, 2) := by decide +kernel
theorem dX0_arm_37 : decode cX0_arm 37 = .ok (.bipush 10, 2) := by decide +kernel
theorem dX0_arm_39 : decode cX0_arm 39 = .ok (.if_icmp .ge 55, 3) := by decide +kernel
theorem dX0_arm_42 : decode cX0_arm 42 = .ok (.lload 4, 2) := by decide +kernel
theorem dX0_arm_44 : decode cX0_arm 44 = .ok (.aload 7, 2) := by decide +kernel
theorem dX0_arm_46 : decode cX0_arm 46 = .ok (.getfield 192, 3) := by decide +kernel
theorem dX0_arm_49 : decode cX0_arm 49 = .ok (.i2l, 1) := by decide +kernel
theorem dX0_arm_50 : decode cX0_arm 50 = .ok (.bipush 100, 2) := by decide +kernel
theorem dX0_arm_52 : decode cX0_arm 52 = .ok (.aload 7, 2) := by decide +kernel
theorem dX0_arm_54 : decode cX0_arm 54 = .ok (.iload 8, 2) := by decide +kernel
theorem dX0_arm_56 : decode cX0_arm 56 = .ok (.iload_n 1, 1) := by decide +kernel
theorem dX0_arm_57 : decode cX0_arm 57 = .ok (.iload_n 2, 1) := by decide +kernel
theorem dX0_arm_58 : decode cX0_arm 58 = .ok (.iconst 1, 1) := by decide +kernel
theorem dX0_arm_59 : decode cX0_arm 59 = .ok (.invokevirtual 195, 3) := by decide +kernel
theorem dX0_arm_62 : decode cX0_arm 62 = .ok (.imul, 1) := by decide +kernel
theorem dX0_arm_63 : decode cX0_arm 63 = .ok (.iload_n 1, 1) := by decide +kernel
theorem dX0_arm_64 : decode cX0_arm 64 = .ok (.iconst 2, 1) := by decide +kernel
theorem dX0_arm_65 : decode cX0_arm 65 = .ok (.iload 8, 2) := by decide +kernel
theorem dX0_arm_67 : decode cX0_arm 67 = .ok (.imul, 1) := by decide +kernel
theorem dX0_arm_68 : decode cX0_arm 68 = .ok (.iconst 1, 1) := by decide +kernel
theorem dX0_arm_69 : decode cX0_arm 69 = .ok (.iadd, 1) := by decide +kernel
theorem dX0_arm_70 : decode cX0_arm 70 = .ok (.imul, 1) := by decide +kernel
theorem dX0_arm_71 : decode cX0_arm 71 = .ok (.aload 7, 2) := by decide +kernel
theorem dX0_arm_73 : decode cX0_arm 73 = .ok (.iload 8, 2) := by decide +kernel
theorem dX0_arm_75 : decode cX0_arm 75 = .ok (.iload_n 1, 1) := by decide +kernel
theorem dX0_arm_76 : decode cX0_arm 76 = .ok (.iload_n 2, 1) := by decide +kernel
theorem dX0_arm_77 : decode cX0_arm 77 = .ok (.iconst 0, 1) := by decide +kernel
theorem dX0_arm_78 : decode cX0_arm 78 = .ok (.invokevirtual 195, 3) := by decide +kernel
theorem dX0_arm_81 : decode cX0_arm 81 = .ok (.imul, 1) := by decide +kernel
theorem dX0_arm_82 : decode cX0_arm 82 = .ok (.iadd, 1) := by decide +kernel
theorem dX0_arm_83 : decode cX0_arm 83 = .ok (.i2l, 1) := by decide +kernel
theorem dX0_arm_84 : decode cX0_arm 84 = .ok (.lmul, 1) := by decide +kernel
theorem dX0_arm_85 : decode cX0_arm 85 = .ok (.ladd, 1) := by decide +kernel
theorem dX0_arm_86 : decode cX0_arm 86 = .ok (.lstore 4, 2) := by decide +kernel
theorem dX0_arm_88 : decode cX0_arm 88 = .ok (.iinc 8 1, 3) := by decide +kernel
theorem dX0_arm_91 : decode cX0_arm 91 = .ok (.goto (-56), 3) := by decide +kernel
theorem dX0_arm_94 : decode cX0_arm 94 = .ok (.iinc 6 1, 3) := by decide +kernel
theorem dX0_arm_97 : decode cX0_arm 97 = .ok (.goto (-91), 3) := by decide +kernel
theorem dX0_arm_100 : decode cX0_arm 100 = .ok (.lconst 0, 1) := by decide +kernel
theorem dX0_arm_101 : decode cX0_arm 101 = .ok (.lstore 6, 2) := by decide +kernel
theorem dX0_arm_103 : decode cX0_arm 103 = .ok (.iconst 0, 1) := by decide +kernel
theorem dX0_arm_104 : decode cX0_arm 104 = .ok (.istore 8, 2) := by decide +kernel
theorem dX0_arm_106 : decode cX0_arm 106 = .ok (.iload 8, 2) := by decide +kernel
theorem dX0_arm_108 : decode cX0_arm 108 = .ok (.aload_n 0, 1) := by decide +kernel
theorem dX0_arm_109 : decode cX0_arm 109 = .ok (.getfield 38, 3) := by decide +kernel
theorem dX0_arm_112 : decode cX0_arm 112 = .ok (.invokevirtual 125, 3) := by decide +kernel
theorem dX0_arm_115 : decode cX0_arm 115 = .ok (.if_icmp .ge 59, 3) := by decide +kernel
theorem dX0_arm_118 : decode cX0_arm 118 = .ok (.aload_n 0, 1) := by decide +kernel
theorem dX0_arm_119 : decode cX0_arm 119 = .ok (.getfield 38, 3) := by decide +kernel
theorem dX0_arm_122 : decode cX0_arm 122 = .ok (.iload 8, 2) := by decide +kernel
theorem dX0_arm_124 : decode cX0_arm 124 = .ok (.invokevirtual 159, 3) := by decide +kernel
theorem dX0_arm_127 : decode cX0_arm 127 = .ok (.checkcast 154, 3) := by decide +kernel
theorem dX0_arm_130 : decode cX0_arm 130 = .ok (.astore 9, 2) := by decide +kernel
theorem dX0_arm_132 : decode cX0_arm 132 = .ok (.aload 9, 2) := by decide +kernel
theorem dX0_arm_134 : decode cX0_arm 134 = .ok (.getfield 163, 3) := by decide +kernel
theorem dX0_arm_137 : decode cX0_arm 137 = .ok (.ifCond .ne 31, 3) := by decide +kernel
theorem dX0_arm_140 : decode cX0_arm 140 = .ok (.lload 6, 2) := by decide +kernel
theorem dX0_arm_142 : decode cX0_arm 142 = .ok (.aload 9, 2) := by decide +kernel
theorem dX0_arm_144 : decode cX0_arm 144 = .ok (.getfield 189, 3) := by decide +kernel
theorem dX0_arm_147 : decode cX0_arm 147 = .ok (.i2l, 1) := by decide +kernel
theorem dX0_arm_148 : decode cX0_arm 148 = .ok (.bipush 100, 2) := by decide +kernel
theorem dX0_arm_150 : decode cX0_arm 150 = .ok (.aload_n 3, 1) := by decide +kernel
theorem dX0_arm_151 : decode cX0_arm 151 = .ok (.iload 8, 2) := by decide +kernel
theorem dX0_arm_153 : decode cX0_arm 153 = .ok (.iaload, 1) := by decide +kernel
theorem dX0_arm_154 : decode cX0_arm 154 = .ok (.imul, 1) := by decide +kernel
theorem dX0_arm_155 : decode cX0_arm 155 = .ok (.iload_n 1, 1) := by decide +kernel
theorem dX0_arm_156 : decode cX0_arm 156 = .ok (.aload 9, 2) := by decide +kernel
theorem dX0_arm_158 : decode cX0_arm 158 = .ok (.getfield 210, 3) := by decide +kernel
theorem dX0_arm_161 : decode cX0_arm 161 = .ok (.imul, 1) := by decide +kernel
theorem dX0_arm_162 : decode cX0_arm 162 = .ok (.iadd, 1) := by decide +kernel
theorem dX0_arm_163 : decode cX0_arm 163 = .ok (.i2l, 1) := by decide +kernel
theorem dX0_arm_164 : decode cX0_arm 164 = .ok (.lmul, 1) := by decide +kernel
theorem dX0_arm_165 : decode cX0_arm 165 = .ok (.ladd, 1) := by decide +kernel
theorem dX0_arm_166 : decode cX0_arm 166 = .ok (.lstore 6, 2) := by decide +kernel
theorem dX0_arm_168 : decode cX0_arm 168 = .ok (.iinc 8 1, 3) := by decide +kernel
theorem dX0_arm_171 : decode cX0_arm 171 = .ok (.goto (-65), 3) := by decide +kernel
theorem dX0_arm_174 : decode cX0_arm 174 = .ok (.iconst 0, 1) := by decide +kernel
theorem dX0_arm_175 : decode cX0_arm 175 = .ok (.istore 8, 2) := by decide +kernel
theorem dX0_arm_177 : decode cX0_arm 177 = .ok (.iload 8, 2) := by decide +kernel
theorem dX0_arm_179 : decode cX0_arm 179 = .ok (.aload_n 0, 1) := by decide +kernel
theorem dX0_arm_180 : decode cX0_arm 180 = .ok (.getfield 41, 3) := by decide +kernel
theorem dX0_arm_183 : decode cX0_arm 183 = .ok (.invokevirtual 125, 3) := by decide +kernel
theorem dX0_arm_186 : decode cX0_arm 186 = .ok (.if_icmp .ge 69, 3) := by decide +kernel
theorem dX0_arm_189 : decode cX0_arm 189 = .ok (.lload 6, 2) := by decide +kernel
theorem dX0_arm_191 : decode cX0_arm 191 = .ok (.aload_n 0, 1) := by decide +kernel
theorem dX0_arm_192 : decode cX0_arm 192 = .ok (.getfield 41, 3) := by decide +kernel
theorem dX0_arm_195 : decode cX0_arm 195 = .ok (.iload 8, 2) := by decide +kernel
theorem dX0_arm_197 : decode cX0_arm 197 = .ok (.invokevirtual 159, 3) := by decide +kernel
theorem dX0_arm_200 : decode cX0_arm 200 = .ok (.checkcast 175, 3) := by decide +kernel
theorem dX0_arm_203 : decode cX0_arm 203 = .ok (.getfield 183, 3) := by decide +kernel
theorem dX0_arm_206 : decode cX0_arm 206 = .ok (.i2l, 1) := by decide +kernel
theorem dX0_arm_207 : decode cX0_arm 207 = .ok (.bipush 100, 2) := by decide +kernel
theorem dX0_arm_209 : decode cX0_arm 209 = .ok (.aload_n 0, 1) := by decide +kernel
theorem dX0_arm_210 : decode cX0_arm 210 = .ok (.getfield 41, 3) := by decide +kernel
theorem dX0_arm_213 : decode cX0_arm 213 = .ok (.iload 8, 2) := by decide +kernel
theorem dX0_arm_215 : decode cX0_arm 215 = .ok (.invokevirtual 159, 3) := by decide +kernel
theorem dX0_arm_218 : decode cX0_arm 218 = .ok (.checkcast 175, 3) := by decide +kernel
theorem dX0_arm_221 : decode cX0_arm 221 = .ok (.iload_n 1, 1) := by decide +kernel
theorem dX0_arm_222 : decode cX0_arm 222 = .ok (.invokevirtual 213, 3) := by decide +kernel
theorem dX0_arm_225 : decode cX0_arm 225 = .ok (.imul, 1) := by decide +kernel
theorem dX0_arm_226 : decode cX0_arm 226 = .ok (.iload_n 1, 1) := by decide +kernel
theorem dX0_arm_227 : decode cX0_arm 227 = .ok (.aload_n 0, 1) := by decide +kernel
theorem dX0_arm_228 : decode cX0_arm 228 = .ok (.getfield 41, 3) := by decide +kernel
theorem dX0_arm_231 : decode cX0_arm 231 = .ok (.iload 8, 2) := by decide +kernel
theorem dX0_arm_233 : decode cX0_arm 233 = .ok (.invokevirtual 159, 3) := by decide +kernel
theorem dX0_arm_236 : decode cX0_arm 236 = .ok (.checkcast 175, 3) := by decide +kernel
theorem dX0_arm_239 : decode cX0_arm 239 = .ok (.getfield 217, 3) := by decide +kernel
theorem dX0_arm_242 : decode cX0_arm 242 = .ok (.imul, 1) := by decide +kernel
theorem dX0_arm_243 : decode cX0_arm 243 = .ok (.iadd, 1) := by decide +kernel
theorem dX0_arm_244 : decode cX0_arm 244 = .ok (.i2l, 1) := by decide +kernel
theorem dX0_arm_245 : decode cX0_arm 245 = .ok (.lmul, 1) := by decide +kernel
theorem dX0_arm_246 : decode cX0_arm 246 = .ok (.ladd, 1) := by decide +kernel
theorem dX0_arm_247 : decode cX0_arm 247 = .ok (.lstore 6, 2) := by decide +kernel
theorem dX0_arm_249 : decode cX0_arm 249 = .ok (.iinc 8 1, 3) := by decide +kernel
theorem dX0_arm_252 : decode cX0_arm 252 = .ok (.goto (-75), 3) := by decide +kernel
theorem dX0_arm_255 : decode cX0_arm 255 = .ok (.lload 4, 2) := by decide +kernel
theorem dX0_arm_257 : decode cX0_arm 257 = .ok (.aload_n 0, 1) := by decide +kernel
theorem dX0_arm_258 : decode cX0_arm 258 = .ok (.invokevirtual 199, 3) := by decide +kernel
theorem dX0_arm_261 : decode cX0_arm 261 = .ok (.i2l, 1) := by decide +kernel
theorem dX0_arm_262 : decode cX0_arm 262 = .ok (.lmul, 1) := by decide +kernel
theorem dX0_arm_263 : decode cX0_arm 263 = .ok (.aload_n 0, 1) := by decide +kernel
theorem dX0_arm_264 : decode cX0_arm 264 = .ok (.iload_n 1, 1) := by decide +kernel
theorem dX0_arm_265 : decode cX0_arm 265 = .ok (.iload_n 2, 1) := by decide +kernel
theorem dX0_arm_266 : decode cX0_arm 266 = .ok (.invokevirtual 202, 3) := by decide +kernel
theorem dX0_arm_269 : decode cX0_arm 269 = .ok (.i2l, 1) := by decide +kernel
theorem dX0_arm_270 : decode cX0_arm 270 = .ok (.invokestatic 218, 3) := by decide +kernel
theorem dX0_arm_273 : decode cX0_arm 273 = .ok (.lload 6, 2) := by decide +kernel
theorem dX0_arm_275 : decode cX0_arm 275 = .ok (.lsub, 1) := by decide +kernel
theorem dX0_arm_276 : decode cX0_arm 276 = .ok (.l2i, 1) := by decide +kernel
theorem dX0_arm_277 : decode cX0_arm 277 = .ok (.ireturn, 1) := by decide +kernel
set_option maxHeartbeats 4000000 in
theorem carm (l : Launch) (adK adV st : Nat → Nat) (D : va_G) (E : Nat → ClassId) (A : Nat → Prop) (ad nv : Nat → Nat) (I : Nat → Int) (F : Nat → Int → Int) (S : Nat → Nat → Int) (Y : Nat → Int → Int) (L : Nat → Nat) (sl lv : Int) (pr : Nat) (g pl : Int → Int) (hpV : cV nv F S pr) (hpc : cC E ad I F S Y L pr = .inl (E 0, 12, ai g)) (epl : ∀ w, 0 ≤ w → w < I 4 → g w = pl w) (gp0 : Bd pl 12 (-19) 19) (hs : -80 ≤ sl ∧ sl ≤ 80) (hlv : -4000 ≤ lv ∧ lv ≤ 4000) (hpp : 0 < pushS (I 1) (F 2) (F 3) sl lv) (hn : cOK nv I L) (gh0 : gHull I F) (gl0 : gLoad I F) : JM l yX0_arm cX0_arm 10 (some .int) (mrm 4) (CX adK adV st D E A ad nv I F S Y L) [.ref (ad 0), .int (iI sl), .int (iI lv), .ref (ad pr)] (vp_Si (fun r => r = iI (armS (upS (I 1) (F 2) (F 3) sl lv) (heavyS (I 4) (F 9) (F 5) (I 10) (F 14)) (pushS (I 1) (F 2) (F 3) sl lv) ((downS (I 4) (F 9) (F 5) pl (F 7) (I 10) (F 14) (F 13) (F 11) (F 12)) sl)))) := by
  refine j_start (by decide) rfl (Nat.le_of_ble_eq_true rfl) ?_
  intro p e R s m args below meth c ls Q hR hQ hC hml hr hlk hB hl
  have hx := hC.1
  have hb := hC.2.1
  have hown := hC.2.2.1
  have hts := hC.2.2.2
  have hS : va_S A s.heap s.heap [] := va_S.rf
  have hK := hB.1
  have hG := hB.2.1
  have hE := hB.2.2
  have hCK : CK p m c _ s args _ D E := ⟨hx, hb, hown, hts, hK⟩
  have hl : lv_has ls 10 [(0, .ref (ad 0)), (1, .int (iI sl)), (2, .int (iI lv)), (3, .ref (ad pr))] := hl
  obtain ⟨⟨n0, n1, n2, n3⟩, ⟨l0, l1, l2, l3⟩, c0, c1, c2, c3⟩ := id hn
  obtain ⟨i1, a2, a3⟩ := id gh0
  obtain ⟨i4, a5, a6, a7, a8, a9, i10, a11, a12, a13, a14, a14h⟩ := id gl0
  have hhv := heavyS_bd (lost := F 9) i4 i10 a5 a14
  have hpb : ∀ sl y, 0 ≤ pushS (I 1) (F 2) (F 3) sl y ∧ pushS (I 1) (F 2) (F 3) sl y ≤ 21600 := fun sl y => pushS_bd sl y i1 a2 a3
  have hub : ∀ sl y, -80 ≤ sl ∧ sl ≤ 80 → -69552000 ≤ upS (I 1) (F 2) (F 3) sl y ∧ upS (I 1) (F 2) (F 3) sl y ≤ 69552000 := fun sl y q => upS_bd y q i1 a2 a3
  refine r_lconst hx hb 0 dX0_arm_0 (by decide) ?_
  refine lv_lstore (lv' := [(4, .long (iL 0)), (0, .ref (ad 0)), (1, .int (iI sl)), (2, .int (iI lv)), (3, .ref (ad pr))]) hx hb dX0_arm_1 hl (by decide) rfl (fun ls hl => ?_)
  refine r_iconst hx hb dX0_arm_3 ?_
  refine lv_istore (lv' := [(6, .int (iI 0)), (4, .long (iL 0)), (0, .ref (ad 0)), (1, .int (iI sl)), (2, .int (iI lv)), (3, .ref (ad pr))]) hx hb dX0_arm_4 hl (by decide) rfl (fun ls hl => ?_)
  have loop6_1 : ∀ (n : Nat) (k u : Int), I 1 - k < (n : Int) → u = sm (fun k => sm (rowU (F 2) (F 3) sl lv k) 10) k → 0 ≤ k → k ≤ I 1 → ∀ (ls : Array Slot), lv_has ls 10 [(6, .int (iI k)), (4, .long (iL u)), (0, .ref (ad 0)), (1, .int (iI sl)), (2, .int (iI lv)), (3, .ref (ad pr))] → W p l e R s m args below meth c s.heap [] 0 0 Q (F0 m 6 ls []) := by
    intro n
    induction n with
    | zero => intro k u hn3 ex hk0 hk1; exfalso; omega
    | succ n ih2 =>
      intro k u hn3 ex hk0 hk1 ls hl
      refine lv_iload hx hb dX0_arm_6 (lv_at hl 0 rfl) ?_
      refine lv_aload_n hx hb dX0_arm_8 rfl (lv_at hl 2 rfl) ?_
      refine cg_X0_34 hCK hG dX0_arm_9 ?_
      refine s_calli (j_runV (n := 0) (C := RJ2) (b := ad 11) (rest := [.int (iI k)]) (as := []) hx hb hml hown hts (lsz_11 l adK adV st D E A ad nv I F S Y L) GB.blind (GB.at hK hG hE hS) (g_rec (r := 11) (ci := 10) hK hG (Or.inl (by decide)) rfl (cC_l (by decide))) q641 q614 q615 q71 q616 (by decide +kernel) ⟨rfl, rfl⟩ hR (by decide) ⟨Nat.zero_le _, Nat.zero_le _⟩ rfl hl.1 rfl (Nat.le_of_ble_eq_true rfl) dX0_arm_12) ?_
      refine r_icmp_ge (tgt := 100) hx hb dX0_arm_15 (by decide) (by omega) (by omega) (fun c4 => ?_) (fun c4 => ?_)
      · have ek : k = I 1 := by omega
        refine r_lconst hx hb 0 dX0_arm_100 (by decide) ?_
        refine lv_lstore (lv' := [(6, .long (iL 0)), (4, .long (iL u)), (0, .ref (ad 0)), (1, .int (iI sl)), (2, .int (iI lv)), (3, .ref (ad pr))]) hx hb dX0_arm_101 hl (by decide) rfl (fun ls hl => ?_)
        refine r_iconst hx hb dX0_arm_103 ?_
        refine lv_istore (lv' := [(8, .int (iI 0)), (6, .long (iL 0)), (4, .long (iL u)), (0, .ref (ad 0)), (1, .int (iI sl)), (2, .int (iI lv)), (3, .ref (ad pr))]) hx hb dX0_arm_104 hl (by decide) rfl (fun ls hl => ?_)
        have loop106_5 : ∀ (n : Nat) (j v : Int), I 4 - j < (n : Int) → (v = sm (fun w => if F 9 w = 0 then F 5 w * (100 * pl w + sl * F 7 w) else 0) j) → 0 ≤ j → j ≤ I 4 → ∀ (ls : Array Slot), lv_has ls 10 [(8, .int (iI j)), (6, .long (iL v)), (4, .long (iL u)), (0, .ref (ad 0)), (1, .int (iI sl)), (2, .int (iI lv)), (3, .ref (ad pr))] → W p l e R s m args below meth c s.heap [] 0 0 Q (F0 m 106 ls []) := by
          intro n
          induction n with
          | zero => intro j v hn7 ev hj0 hj1; exfalso; omega
          | succ n ih6 =>
            intro j v hn7 ev hj0 hj1 ls hl
            refine lv_iload hx hb dX0_arm_106 (lv_at hl 0 rfl) ?_
            refine lv_aload_n hx hb dX0_arm_108 rfl (lv_at hl 3 rfl) ?_
            refine cg_X0_38 hCK hG dX0_arm_109 ?_
            refine s_calli (j_runV (n := 0) (C := RJ2) (b := ad 12) (rest := [.int (iI j)]) (as := []) hx hb hml hown hts (lsz_12 l adK adV st D E A ad nv I F S Y L) GB.blind (GB.at hK hG hE hS) (g_rec (r := 12) (ci := 10) hK hG (Or.inl (by decide)) rfl (cC_l (by decide))) q641 q614 q615 q71 q616 (by decide +kernel) ⟨rfl, rfl⟩ hR (by decide) ⟨Nat.zero_le _, Nat.zero_le _⟩ rfl hl.1 rfl (Nat.le_of_ble_eq_true rfl) dX0_arm_112) ?_
            refine r_icmp_ge (tgt := 174) hx hb dX0_arm_115 (by decide) (by omega) (by omega) (fun c8 => ?_) (fun c8 => ?_)
            · have ej : j = I 4 := by omega
              refine r_iconst hx hb dX0_arm_174 ?_
              refine lv_istore (lv' := [(8, .int (iI 0)), (6, .long (iL v)), (4, .long (iL u)), (0, .ref (ad 0)), (1, .int (iI sl)), (2, .int (iI lv)), (3, .ref (ad pr))]) hx hb dX0_arm_175 hl (by decide) rfl (fun ls hl => ?_)
              have loop177_9 : ∀ (n : Nat) (i v : Int), I 10 - i < (n : Int) → (v = sm (fun w => if F 9 w = 0 then F 5 w * (100 * pl w + sl * F 7 w) else 0) (I 4) + sm (fun t => F 14 t * (100 * tpS (F 14 t) (F 13 t) (F 11 t) sl + sl * F 12 t)) i) → 0 ≤ i → i ≤ I 10 → ∀ (ls : Array Slot), lv_has ls 10 [(8, .int (iI i)), (6, .long (iL v)), (4, .long (iL u)), (0, .ref (ad 0)), (1, .int (iI sl)), (2, .int (iI lv)), (3, .ref (ad pr))] → W p l e R s m args below meth c s.heap [] 0 0 Q (F0 m 177 ls []) := by
                intro n
                induction n with
                | zero => intro i v hn11 ev hi0 hi1; exfalso; omega
                | succ n ih10 =>
                  intro i v hn11 ev hi0 hi1 ls hl
                  refine lv_iload hx hb dX0_arm_177 (lv_at hl 0 rfl) ?_
                  refine lv_aload_n hx hb dX0_arm_179 rfl (lv_at hl 3 rfl) ?_
                  refine cg_X0_41 hCK hG dX0_arm_180 ?_
                  refine s_calli (j_runV (n := 0) (C := RJ2) (b := ad 13) (rest := [.int (iI i)]) (as := []) hx hb hml hown hts (lsz_13 l adK adV st D E A ad nv I F S Y L) GB.blind (GB.at hK hG hE hS) (g_rec (r := 13) (ci := 10) hK hG (Or.inl (by decide)) rfl (cC_l (by decide))) q641 q614 q615 q71 q616 (by decide +kernel) ⟨rfl, rfl⟩ hR (by decide) ⟨Nat.zero_le _, Nat.zero_le _⟩ rfl hl.1 rfl (Nat.le_of_ble_eq_true rfl) dX0_arm_183) ?_
                  refine r_icmp_ge (tgt := 255) hx hb dX0_arm_186 (by decide) (by omega) (by omega) (fun c12 => ?_) (fun c12 => ?_)
                  · have ei : i = I 10 := by omega
                    have hu1 := hub sl lv hs
                    have hp1 := hpb sl lv
                    have eu : u = upS (I 1) (F 2) (F 3) sl lv := by unfold upS; rw [ex, ek]
                    have hmu := mul_bd (A := 69552000) (B := 7200) (a := u) (b := heavyS (I 4) (F 9) (F 5) (I 10) (F 14)) (by omega) (by omega)
                    refine lv_lload hx hb dX0_arm_255 (lv_at hl 2 rfl) ?_
                    refine lv_aload_n hx hb dX0_arm_257 rfl (lv_at hl 3 rfl) ?_
                    refine s_calli (j_runV (n := 0) (C := RX0) (b := ad 0) (rest := [.long (iL u)]) (as := []) hx hb hml hown hts (cheavy l adK adV st D E A ad nv I F S Y L hn gl0) GB.blind (GB.at hK hG hE hS) (g_rec (r := 0) (ci := 0) hK hG (Or.inl (by decide)) rfl cC_0) q751 q753 qs19 q68 q754 (by decide +kernel) ⟨rfl, rfl⟩ hR (by decide) ⟨Nat.zero_le _, Nat.zero_le _⟩ rfl hl.1 rfl (Nat.le_of_ble_eq_true rfl) dX0_arm_258) ?_
                    refine r_i2l hx hb dX0_arm_261 (by omega) ?_
                    refine r_lmul hx hb dX0_arm_262 ?_
                    refine lv_aload_n hx hb dX0_arm_263 rfl (lv_at hl 3 rfl) ?_
                    refine lv_iload_n hx hb dX0_arm_264 rfl (lv_at hl 4 rfl) ?_
                    refine lv_iload_n hx hb dX0_arm_265 rfl (lv_at hl 5 rfl) ?_
                    refine s_calli (j_runV (n := 2) (C := RX0) (b := ad 0) (rest := [.long (iL (u * (heavyS (I 4) (F 9) (F 5) (I 10) (F 14))))]) (as := [.int (iI sl), .int (iI lv)]) hx hb hml hown hts (cpush l adK adV st D E A ad nv I F S Y L sl lv (by omega) (by omega) hn gh0) GB.blind (GB.at hK hG hE hS) (g_rec (r := 0) (ci := 0) hK hG (Or.inl (by decide)) rfl cC_0) q755 q757 qs20 q68 q758 (by decide +kernel) ⟨rfl, rfl⟩ hR (by decide) ⟨Nat.zero_le _, Nat.zero_le _⟩ rfl hl.1 rfl (Nat.le_of_ble_eq_true rfl) dX0_arm_266) ?_
                    refine r_i2l hx hb dX0_arm_269 (by omega) ?_
                    refine s_calll (j_runS (n := 2) (rest := []) (as := [.long (iL (u * (heavyS (I 4) (F 9) (F 5) (I 10) (F 14)))), .long (iL (pushS (I 1) (F 2) (F 3) sl lv))]) hx hb hml hown hts ((met_fdivL l (u * (heavyS (I 4) (F 9) (F 5) (I 10) (F 14))) (pushS (I 1) (F 2) (F 3) sl lv) (by omega) (by omega)).jm) (fun _ _ _ _ _ => trivial) (fun _ _ _ => trivial) q774 q775 q76 q776 (by decide +kernel) ⟨rfl, rfl⟩ hR (by decide) ⟨Nat.zero_le _, Nat.zero_le _⟩ rfl hl.1 rfl (Nat.le_of_ble_eq_true rfl) dX0_arm_270) ?_
                    refine lv_lload hx hb dX0_arm_273 (lv_at hl 1 rfl) ?_
                    refine r_lsub hx hb dX0_arm_275 ?_
                    refine r_l2i hx hb dX0_arm_276 ?_
                    exact j_iret hC hr hlk hQ dX0_arm_277 (by unfold armS downS; rw [eu, ev, ei])
                  · have b14 := a14 i (by omega) (by omega)
                    have b11 := a11 i (by omega) (by omega)
                    have b12 := a12 i (by omega) (by omega)
                    have m4 := mul_bd (A := 80) (B := 40) (a := sl) (b := F 12 i) (by omega) (by omega)
                    have m5 := tpS_bd (has := F 14 i) (hol := F 13 i) (sl := sl) hs b11
                    refine lv_lload hx hb dX0_arm_189 (lv_at hl 1 rfl) ?_
                    refine lv_aload_n hx hb dX0_arm_191 rfl (lv_at hl 3 rfl) ?_
                    refine cg_X0_41 hCK hG dX0_arm_192 ?_
                    refine lv_iload hx hb dX0_arm_195 (lv_at hl 0 rfl) ?_
                    refine j_callr (j_runV (n := 1) (C := RJ2) (b := ad 13) (rest := [.long (iL v)]) (as := [.int (iI i)]) hx hb hml hown hts (lgt_13 l adK adV st D E A ad nv I F S Y L i (by omega) (by omega) (by omega)) GB.blind (GB.at hK hG hE hS) (g_rec (r := 13) (ci := 10) hK hG (Or.inl (by decide)) rfl (cC_l (by decide))) q703 q620 q621 q71 q622 (by decide +kernel) ⟨rfl, rfl⟩ hR (by decide) ⟨Nat.zero_le _, Nat.zero_le _⟩ rfl hl.1 rfl (Nat.le_of_ble_eq_true rfl) dX0_arm_197) ?_
                    refine c_cast (r := 3300 + i.toNat) (ci := 5) hCK hG (by have := (show (0 : Int) ≤ i ∧ i < 100 by omega); unfold cV; omega) rfl (cC_tk (by have := (show (0 : Int) ≤ i ∧ i < 100 by omega); omega)) q710 dX0_arm_200 ?_
                    refine cg_X0_183 (v := F 14 i) (z := i) hCK hE hG (by omega) rfl dX0_arm_203 ?_
                    refine r_i2l hx hb dX0_arm_206 (by omega) ?_
                    refine r_bipush hx hb dX0_arm_207 (by decide) ?_
                    refine lv_aload_n hx hb dX0_arm_209 rfl (lv_at hl 3 rfl) ?_
                    refine cg_X0_41 hCK hG dX0_arm_210 ?_
                    refine lv_iload hx hb dX0_arm_213 (lv_at hl 0 rfl) ?_
                    refine j_callr (j_runV (n := 1) (C := RJ2) (b := ad 13) (rest := [.int (iI 100), .long (iL (F 14 i)), .long (iL v)]) (as := [.int (iI i)]) hx hb hml hown hts (lgt_13 l adK adV st D E A ad nv I F S Y L i (by omega) (by omega) (by omega)) GB.blind (GB.at hK hG hE hS) (g_rec (r := 13) (ci := 10) hK hG (Or.inl (by decide)) rfl (cC_l (by decide))) q703 q620 q621 q71 q622 (by decide +kernel) ⟨rfl, rfl⟩ hR (by decide) ⟨Nat.zero_le _, Nat.zero_le _⟩ rfl hl.1 rfl (Nat.le_of_ble_eq_true rfl) dX0_arm_215) ?_
                    refine c_cast (r := 3300 + i.toNat) (ci := 5) hCK hG (by have := (show (0 : Int) ≤ i ∧ i < 100 by omega); unfold cV; omega) rfl (cC_tk (by have := (show (0 : Int) ≤ i ∧ i < 100 by omega); omega)) q710 dX0_arm_218 ?_
                    refine lv_iload_n hx hb dX0_arm_221 rfl (lv_at hl 4 rfl) ?_
                    refine s_calli (j_runV (n := 1) (C := RX5) (b := ad (3300 + i.toNat)) (rest := [.int (iI 100), .long (iL (F 14 i)), .long (iL v)]) (as := [.int (iI sl)]) hx hb hml hown hts (cplace l adK adV st D E A ad nv I F S Y L i sl (by omega) (by omega) gl0) GB.blind (GB.at hK hG hE hS) (g_rec (r := 3300 + i.toNat) (ci := 5) hK hG (by have := (show (0 : Int) ≤ i ∧ i < 100 by omega); unfold cV; omega) rfl (cC_tk (by have := (show (0 : Int) ≤ i ∧ i < 100 by omega); omega))) q770 q771 q772 q82 q773 (by decide +kernel) ⟨rfl, rfl⟩ hR (by decide) ⟨Nat.zero_le _, Nat.zero_le _⟩ rfl hl.1 rfl (Nat.le_of_ble_eq_true rfl) dX0_arm_222) ?_
                    refine r_imul hx hb dX0_arm_225 ?_
                    refine lv_iload_n hx hb dX0_arm_226 rfl (lv_at hl 4 rfl) ?_
                    refine lv_aload_n hx hb dX0_arm_227 rfl (lv_at hl 3 rfl) ?_
                    refine cg_X0_41 hCK hG dX0_arm_228 ?_
                    refine lv_iload hx hb dX0_arm_231 (lv_at hl 0 rfl) ?_
                    refine j_callr (j_runV (n := 1) (C := RJ2) (b := ad 13) (rest := [.int (iI sl), .int (iI (100 * (tpS (F 14 i) (F 13 i) (F 11 i) sl))), .long (iL (F 14 i)), .long (iL v)]) (as := [.int (iI i)]) hx hb hml hown hts (lgt_13 l adK adV st D E A ad nv I F S Y L i (by omega) (by omega) (by omega)) GB.blind (GB.at hK hG hE hS) (g_rec (r := 13) (ci := 10) hK hG (Or.inl (by decide)) rfl (cC_l (by decide))) q703 q620 q621 q71 q622 (by decide +kernel) ⟨rfl, rfl⟩ hR (by decide) ⟨Nat.zero_le _, Nat.zero_le _⟩ rfl hl.1 rfl (Nat.le_of_ble_eq_true rfl) dX0_arm_233) ?_
                    refine c_cast (r := 3300 + i.toNat) (ci := 5) hCK hG (by have := (show (0 : Int) ≤ i ∧ i < 100 by omega); unfold cV; omega) rfl (cC_tk (by have := (show (0 : Int) ≤ i ∧ i < 100 by omega); omega)) q710 dX0_arm_236 ?_
                    refine cg_X0_217 (v := F 12 i) (z := i) hCK hE hG (by omega) rfl dX0_arm_239 ?_
                    refine r_imul hx hb dX0_arm_242 ?_
                    refine r_iadd hx hb dX0_arm_243 ?_
                    refine r_i2l hx hb dX0_arm_244 (by omega) ?_
                    refine r_lmul hx hb dX0_arm_245 ?_
                    refine r_ladd hx hb dX0_arm_246 ?_
                    refine lv_lstore (lv' := [(6, .long (iL (v + ((F 14 i) * ((100 * (tpS (F 14 i) (F 13 i) (F 11 i) sl)) + (sl * (F 12 i))))))), (8, .int (iI i)), (4, .long (iL u)), (0, .ref (ad 0)), (1, .int (iI sl)), (2, .int (iI lv)), (3, .ref (ad pr))]) hx hb dX0_arm_247 hl (by decide) rfl (fun ls hl => ?_)
                    refine lv_iinc (v := iI (i + 1)) (lv' := [(8, .int (iI (i + 1))), (6, .long (iL (v + ((F 14 i) * ((100 * (tpS (F 14 i) (F 13 i) (F 11 i) sl)) + (sl * (F 12 i))))))), (4, .long (iL u)), (0, .ref (ad 0)), (1, .int (iI sl)), (2, .int (iI lv)), (3, .ref (ad pr))]) hx hb dX0_arm_249 hl (k := 1) rfl (iI_add _ _) (by decide) rfl (fun ls hl => ?_)
                    refine lv_goto (tgt := 177) hx hb dX0_arm_252 (by decide) ?_
                    exact ih10 (i + 1) (v + ((F 14 i) * ((100 * (tpS (F 14 i) (F 13 i) (F 11 i) sl)) + (sl * (F 12 i))))) (by omega) (by rw [ev, sm_s _ hi0, Int.add_assoc]) (by omega) (by omega) _ (lv_sub hl [0, 1, 2, 3, 4, 5, 6] rfl)
              exact loop177_9 ((I 10 - 0 : Int).toNat + 1) 0 v (by omega) (by rw [ev, ej, sm_0, Int.add_zero]) (by omega) (by omega) _ (lv_sub hl [0, 1, 2, 3, 4, 5, 6] rfl)
            · have b9 := a9 j (by omega) (by omega)
              have b5 := a5 j (by omega) (by omega)
              have b7 := a7 j (by omega) (by omega)
              have bp := gp0 j (by omega) (by omega)
              have epj := epl j (by omega) (by omega)
              have m4 := mul_bd (A := 80) (B := 40) (a := sl) (b := F 7 j) (by omega) (by omega)
              refine lv_aload_n hx hb dX0_arm_118 rfl (lv_at hl 3 rfl) ?_
              refine cg_X0_38 hCK hG dX0_arm_119 ?_
              refine lv_iload hx hb dX0_arm_122 (lv_at hl 0 rfl) ?_
              refine j_callr (j_runV (n := 1) (C := RJ2) (b := ad 12) (rest := []) (as := [.int (iI j)]) hx hb hml hown hts (lgt_12 l adK adV st D E A ad nv I F S Y L j (by omega) (by omega) (by omega)) GB.blind (GB.at hK hG hE hS) (g_rec (r := 12) (ci := 10) hK hG (Or.inl (by decide)) rfl (cC_l (by decide))) q703 q620 q621 q71 q622 (by decide +kernel) ⟨rfl, rfl⟩ hR (by decide) ⟨Nat.zero_le _, Nat.zero_le _⟩ rfl hl.1 rfl (Nat.le_of_ble_eq_true rfl) dX0_arm_124) ?_
              refine c_cast (r := 3200 + j.toNat) (ci := 4) hCK hG (by have := (show (0 : Int) ≤ j ∧ j < 100 by omega); unfold cV; omega) rfl (cC_wt (by have := (show (0 : Int) ≤ j ∧ j < 100 by omega); omega)) q668 dX0_arm_127 ?_
              refine lv_astore (lv' := [(9, .ref (ad (3200 + j.toNat))), (8, .int (iI j)), (6, .long (iL v)), (4, .long (iL u)), (0, .ref (ad 0)), (1, .int (iI sl)), (2, .int (iI lv)), (3, .ref (ad pr))]) hx hb dX0_arm_130 hl (by decide) rfl (fun ls hl => ?_)
              refine lv_aload hx hb dX0_arm_132 (lv_at hl 0 rfl) ?_
              refine cg_X0_163 (v := F 9 j) (z := j) hCK hE hG (by omega) rfl dX0_arm_134 ?_
              refine r_if_ne (tgt := 168) hx hb dX0_arm_137 (by decide) (by omega) (fun c13 => ?_) (fun c13 => ?_)
              · refine lv_iinc (v := iI (j + 1)) (lv' := [(8, .int (iI (j + 1))), (9, .ref (ad (3200 + j.toNat))), (6, .long (iL v)), (4, .long (iL u)), (0, .ref (ad 0)), (1, .int (iI sl)), (2, .int (iI lv)), (3, .ref (ad pr))]) hx hb dX0_arm_168 hl (k := 1) rfl (iI_add _ _) (by decide) rfl (fun ls hl => ?_)
                refine lv_goto (tgt := 106) hx hb dX0_arm_171 (by decide) ?_
                exact ih6 (j + 1) v (by omega) (by rw [ev, sm_s _ hj0, if_neg (by omega), Int.add_zero]) (by omega) (by omega) _ (lv_sub hl [0, 2, 3, 4, 5, 6, 7] rfl)
              · refine lv_lload hx hb dX0_arm_140 (lv_at hl 2 rfl) ?_
                refine lv_aload hx hb dX0_arm_142 (lv_at hl 0 rfl) ?_
                refine cg_X0_189 (v := F 5 j) (z := j) hCK hE hG (by omega) rfl dX0_arm_144 ?_
                refine r_i2l hx hb dX0_arm_147 (by omega) ?_
                refine r_bipush hx hb dX0_arm_148 (by decide) ?_
                refine lv_aload_n hx hb dX0_arm_150 rfl (lv_at hl 7 rfl) ?_
                refine lv_iload hx hb dX0_arm_151 (lv_at hl 1 rfl) ?_
                refine g_ild hCK hG pr hpV hpc (by decide) (by omega) (v := g j) rfl dX0_arm_153 ?_
                refine r_imul hx hb dX0_arm_154 ?_
                refine lv_iload_n hx hb dX0_arm_155 rfl (lv_at hl 5 rfl) ?_
                refine lv_aload hx hb dX0_arm_156 (lv_at hl 0 rfl) ?_
                refine cg_X0_210 (v := F 7 j) (z := j) hCK hE hG (by omega) rfl dX0_arm_158 ?_
                refine r_imul hx hb dX0_arm_161 ?_
                refine r_iadd hx hb dX0_arm_162 ?_
                refine r_i2l hx hb dX0_arm_163 (by omega) ?_
                refine r_lmul hx hb dX0_arm_164 ?_
                refine r_ladd hx hb dX0_arm_165 ?_
                refine lv_lstore (lv' := [(6, .long (iL (v + ((F 5 j) * ((100 * (g j)) + (sl * (F 7 j))))))), (9, .ref (ad (3200 + j.toNat))), (8, .int (iI j)), (4, .long (iL u)), (0, .ref (ad 0)), (1, .int (iI sl)), (2, .int (iI lv)), (3, .ref (ad pr))]) hx hb dX0_arm_166 hl (by decide) rfl (fun ls hl => ?_)
                refine lv_iinc (v := iI (j + 1)) (lv' := [(8, .int (iI (j + 1))), (6, .long (iL (v + ((F 5 j) * ((100 * (g j)) + (sl * (F 7 j))))))), (9, .ref (ad (3200 + j.toNat))), (4, .long (iL u)), (0, .ref (ad 0)), (1, .int (iI sl)), (2, .int (iI lv)), (3, .ref (ad pr))]) hx hb dX0_arm_168 hl (k := 2) rfl (iI_add _ _) (by decide) rfl (fun ls hl => ?_)
                refine lv_goto (tgt := 106) hx hb dX0_arm_171 (by decide) ?_
                exact ih6 (j + 1) (v + ((F 5 j) * ((100 * (g j)) + (sl * (F 7 j))))) (by omega) (by rw [ev, sm_s _ hj0, if_pos (by omega), epj]) (by omega) (by omega) _ (lv_sub hl [0, 1, 3, 4, 5, 6, 7] rfl)
        exact loop106_5 ((I 4 - 0 : Int).toNat + 1) 0 0 (by omega) rfl (by omega) (by omega) _ (lv_sub hl [0, 1, 2, 3, 4, 5, 6] rfl)
      · have b2 := a2 k (by omega) (by omega)
        refine lv_aload_n hx hb dX0_arm_18 rfl (lv_at hl 2 rfl) ?_
        refine cg_X0_34 hCK hG dX0_arm_19 ?_
        refine lv_iload hx hb dX0_arm_22 (lv_at hl 0 rfl) ?_
        refine j_callr (j_runV (n := 1) (C := RJ2) (b := ad 11) (rest := []) (as := [.int (iI k)]) hx hb hml hown hts (lgt_11 l adK adV st D E A ad nv I F S Y L k (by omega) (by omega) (by omega)) GB.blind (GB.at hK hG hE hS) (g_rec (r := 11) (ci := 10) hK hG (Or.inl (by decide)) rfl (cC_l (by decide))) q703 q620 q621 q71 q622 (by decide +kernel) ⟨rfl, rfl⟩ hR (by decide) ⟨Nat.zero_le _, Nat.zero_le _⟩ rfl hl.1 rfl (Nat.le_of_ble_eq_true rfl) dX0_arm_24) ?_
        refine c_cast (r := 3000 + k.toNat) (ci := 3) hCK hG (by have := (show (0 : Int) ≤ k ∧ k < 100 by omega); unfold cV; omega) rfl (cC_sl (by have := (show (0 : Int) ≤ k ∧ k < 100 by omega); omega)) q642 dX0_arm_27 ?_
        refine lv_astore (lv' := [(7, .ref (ad (3000 + k.toNat))), (6, .int (iI k)), (4, .long (iL u)), (0, .ref (ad 0)), (1, .int (iI sl)), (2, .int (iI lv)), (3, .ref (ad pr))]) hx hb dX0_arm_30 hl (by decide) rfl (fun ls hl => ?_)
        refine r_iconst hx hb dX0_arm_32 ?_
        refine lv_istore (lv' := [(8, .int (iI 0)), (7, .ref (ad (3000 + k.toNat))), (6, .int (iI k)), (4, .long (iL u)), (0, .ref (ad 0)), (1, .int (iI sl)), (2, .int (iI lv)), (3, .ref (ad pr))]) hx hb dX0_arm_33 hl (by decide) rfl (fun ls hl => ?_)
        have loop35_14 : ∀ (n : Nat) (zz y : Int), 10 - zz < (n : Int) → y = sm (fun k => sm (rowU (F 2) (F 3) sl lv k) 10) k + sm (rowU (F 2) (F 3) sl lv k) zz → 0 ≤ zz → zz ≤ 10 → ∀ (ls : Array Slot), lv_has ls 10 [(8, .int (iI zz)), (7, .ref (ad (3000 + k.toNat))), (6, .int (iI k)), (4, .long (iL y)), (0, .ref (ad 0)), (1, .int (iI sl)), (2, .int (iI lv)), (3, .ref (ad pr))] → W p l e R s m args below meth c s.heap [] 0 0 Q (F0 m 35 ls []) := by
          intro n
          induction n with
          | zero => intro zz y hn16 ey hz0 hz1; exfalso; omega
          | succ n ih15 =>
            intro zz y hn16 ey hz0 hz1 ls hl
            refine lv_iload hx hb dX0_arm_35 (lv_at hl 0 rfl) ?_
            refine r_bipush hx hb dX0_arm_37 (by decide) ?_
            refine r_icmp_ge (tgt := 94) hx hb dX0_arm_39 (by decide) (by omega) (by decide) (fun c17 => ?_) (fun c17 => ?_)
            · have ez : zz = 10 := by omega
              refine lv_iinc (v := iI (k + 1)) (lv' := [(6, .int (iI (k + 1))), (8, .int (iI zz)), (7, .ref (ad (3000 + k.toNat))), (4, .long (iL y)), (0, .ref (ad 0)), (1, .int (iI sl)), (2, .int (iI lv)), (3, .ref (ad pr))]) hx hb dX0_arm_94 hl (k := 2) rfl (iI_add _ _) (by decide) rfl (fun ls hl => ?_)
              refine lv_goto (tgt := 6) hx hb dX0_arm_97 (by decide) ?_
              exact ih2 (k + 1) y (by omega) (by rw [ey, ez, sm_s _ hk0]) (by omega) (by omega) _ (lv_sub hl [0, 3, 4, 5, 6, 7] rfl)
            · have b3 := a3 (10 * k + zz) (by omega) (by omega)
              have q1 := cntS_bd sl lv (2 * zz + 1) (F 3 (10 * k + zz)) (n := 2 * F 3 (10 * k + zz)) (by omega)
              have q2 := plcS_bd sl lv (2 * zz + 1) (hf := F 3 (10 * k + zz)) (n := 2 * F 3 (10 * k + zz)) b3 (by omega)
              have q3 := mul_bd (A := 80) (B := 19) (a := sl) (b := 2 * zz + 1) (by omega) (by omega)
              have q4 := mul_bd (A := 1520) (B := 18) (a := sl * (2 * zz + 1)) (b := cntS sl lv (2 * zz + 1) (F 3 (10 * k + zz)) (2 * F 3 (10 * k + zz))) (by omega) (by omega)
              refine lv_lload hx hb dX0_arm_42 (lv_at hl 3 rfl) ?_
              refine lv_aload hx hb dX0_arm_44 (lv_at hl 1 rfl) ?_
              refine cg_X0_192 (v := F 2 k) (z := k) hCK hE hG (by omega) rfl dX0_arm_46 ?_
              refine r_i2l hx hb dX0_arm_49 (by omega) ?_
              refine r_bipush hx hb dX0_arm_50 (by decide) ?_
              refine lv_aload hx hb dX0_arm_52 (lv_at hl 1 rfl) ?_
              refine lv_iload hx hb dX0_arm_54 (lv_at hl 0 rfl) ?_
              refine lv_iload_n hx hb dX0_arm_56 rfl (lv_at hl 5 rfl) ?_
              refine lv_iload_n hx hb dX0_arm_57 rfl (lv_at hl 6 rfl) ?_
              refine r_iconst hx hb dX0_arm_58 ?_
              refine s_calli (j_runV (n := 4) (C := RX3) (b := ad (3000 + k.toNat)) (rest := [.int (iI 100), .long (iL (F 2 k)), .long (iL y)]) (as := [.int (iI zz), .int (iI sl), .int (iI lv), .int (iI 1)]) hx hb hml hown hts (cwet l adK adV st D E A ad nv I F S Y L k zz sl lv 1 (by omega) (by omega) (by omega) (by omega) (by omega) gh0) GB.blind (GB.at hK hG hE hS) (g_rec (r := 3000 + k.toNat) (ci := 3) hK hG (by have := (show (0 : Int) ≤ k ∧ k < 100 by omega); unfold cV; omega) rfl (cC_sl (by have := (show (0 : Int) ≤ k ∧ k < 100 by omega); omega))) q759 q760 q761 q74 q762 (by decide +kernel) ⟨rfl, rfl⟩ hR (by decide) ⟨Nat.zero_le _, Nat.zero_le _⟩ rfl hl.1 rfl (Nat.le_of_ble_eq_true rfl) dX0_arm_59) ?_
              refine W.eq (g2 := F0 m 62 ls [.int (iI (plcS sl lv (2 * zz + 1) (F 3 (10 * k + zz)) (2 * F 3 (10 * k + zz)))), .int (iI 100), .long (iL (F 2 k)), .long (iL y)]) rfl ?_
              refine r_imul hx hb dX0_arm_62 ?_
              refine lv_iload_n hx hb dX0_arm_63 rfl (lv_at hl 5 rfl) ?_
              refine r_iconst hx hb dX0_arm_64 ?_
              refine lv_iload hx hb dX0_arm_65 (lv_at hl 0 rfl) ?_
              refine r_imul hx hb dX0_arm_67 ?_
              refine r_iconst hx hb dX0_arm_68 ?_
              refine r_iadd hx hb dX0_arm_69 ?_
              refine r_imul hx hb dX0_arm_70 ?_
              refine lv_aload hx hb dX0_arm_71 (lv_at hl 1 rfl) ?_
              refine lv_iload hx hb dX0_arm_73 (lv_at hl 0 rfl) ?_
              refine lv_iload_n hx hb dX0_arm_75 rfl (lv_at hl 5 rfl) ?_
              refine lv_iload_n hx hb dX0_arm_76 rfl (lv_at hl 6 rfl) ?_
              refine r_iconst hx hb dX0_arm_77 ?_
              refine s_calli (j_runV (n := 4) (C := RX3) (b := ad (3000 + k.toNat)) (rest := [.int (iI (sl * ((2 * zz) + 1))), .int (iI (100 * (plcS sl lv (2 * zz + 1) (F 3 (10 * k + zz)) (2 * F 3 (10 * k + zz))))), .long (iL (F 2 k)), .long (iL y)]) (as := [.int (iI zz), .int (iI sl), .int (iI lv), .int (iI 0)]) hx hb hml hown hts (cwet l adK adV st D E A ad nv I F S Y L k zz sl lv 0 (by omega) (by omega) (by omega) (by omega) (by omega) gh0) GB.blind (GB.at hK hG hE hS) (g_rec (r := 3000 + k.toNat) (ci := 3) hK hG (by have := (show (0 : Int) ≤ k ∧ k < 100 by omega); unfold cV; omega) rfl (cC_sl (by have := (show (0 : Int) ≤ k ∧ k < 100 by omega); omega))) q759 q760 q761 q74 q762 (by decide +kernel) ⟨rfl, rfl⟩ hR (by decide) ⟨Nat.zero_le _, Nat.zero_le _⟩ rfl hl.1 rfl (Nat.le_of_ble_eq_true rfl) dX0_arm_78) ?_
              refine W.eq (g2 := F0 m 81 ls [.int (iI (cntS sl lv (2 * zz + 1) (F 3 (10 * k + zz)) (2 * F 3 (10 * k + zz)))), .int (iI (sl * ((2 * zz) + 1))), .int (iI (100 * (plcS sl lv (2 * zz + 1) (F 3 (10 * k + zz)) (2 * F 3 (10 * k + zz))))), .long (iL (F 2 k)), .long (iL y)]) rfl ?_
              refine r_imul hx hb dX0_arm_81 ?_
              refine r_iadd hx hb dX0_arm_82 ?_
              refine r_i2l hx hb dX0_arm_83 (by omega) ?_
              refine r_lmul hx hb dX0_arm_84 ?_
              refine r_ladd hx hb dX0_arm_85 ?_
              refine lv_lstore (lv' := [(4, .long (iL (y + ((F 2 k) * ((100 * (plcS sl lv (2 * zz + 1) (F 3 (10 * k + zz)) (2 * F 3 (10 * k + zz)))) + ((sl * ((2 * zz) + 1)) * (cntS sl lv (2 * zz + 1) (F 3 (10 * k + zz)) (2 * F 3 (10 * k + zz))))))))), (8, .int (iI zz)), (7, .ref (ad (3000 + k.toNat))), (6, .int (iI k)), (0, .ref (ad 0)), (1, .int (iI sl)), (2, .int (iI lv)), (3, .ref (ad pr))]) hx hb dX0_arm_86 hl (by decide) rfl (fun ls hl => ?_)
              refine lv_iinc (v := iI (zz + 1)) (lv' := [(8, .int (iI (zz + 1))), (4, .long (iL (y + ((F 2 k) * ((100 * (plcS sl lv (2 * zz + 1) (F 3 (10 * k + zz)) (2 * F 3 (10 * k + zz)))) + ((sl * ((2 * zz) + 1)) * (cntS sl lv (2 * zz + 1) (F 3 (10 * k + zz)) (2 * F 3 (10 * k + zz))))))))), (7, .ref (ad (3000 + k.toNat))), (6, .int (iI k)), (0, .ref (ad 0)), (1, .int (iI sl)), (2, .int (iI lv)), (3, .ref (ad pr))]) hx hb dX0_arm_88 hl (k := 1) rfl (iI_add _ _) (by decide) rfl (fun ls hl => ?_)
              refine lv_goto (tgt := 35) hx hb dX0_arm_91 (by decide) ?_
              exact ih15 (zz + 1) (y + ((F 2 k) * ((100 * (plcS sl lv (2 * zz + 1) (F 3 (10 * k + zz)) (2 * F 3 (10 * k + zz)))) + ((sl * ((2 * zz) + 1)) * (cntS sl lv (2 * zz + 1) (F 3 (10 * k + zz)) (2 * F 3 (10 * k + zz))))))) (by omega) (by rw [ey, sm_s _ hz0, Int.add_assoc]; rfl) (by omega) (by omega) _ (lv_sub hl [0, 2, 3, 1, 4, 5, 6, 7] rfl)
        exact loop35_14 ((10 - 0 : Int).toNat + 1) 0 u (by omega) (by rw [ex, sm_0, Int.add_zero]) (by omega) (by omega) _ (lv_sub hl [0, 1, 2, 3, 4, 5, 6, 7] rfl)
  exact loop6_1 ((I 1 - 0 : Int).toNat + 1) 0 0 (by omega) rfl (by omega) (by omega) _ (lv_sub hl [0, 1, 2, 3, 4, 5] rfl)
theorem dX0_at_0 : decode cX0_at 0 = .ok (.iload_n 1, 1) := by decide +kernel
theorem dX0_at_1 : decode cX0_at 1 = .ok (.i2l, 1) := by decide +kernel
theorem dX0_at_2 : decode cX0_at 2 = .ok (.ldc2_w 220, 3) := by decide +kernel
theorem dX0_at_5 : decode cX0_at 5 = .ok (.ldc2_w 149, 3) := by decide +kernel
theorem dX0_at_8 : decode cX0_at 8 = .ok (.invokestatic 101, 3) := by decide +kernel
theorem dX0_at_11 : decode cX0_at 11 = .ok (.ifCond .eq 15, 3) := by decide +kernel
theorem dX0_at_14 : decode cX0_at 14 = .ok (.iload_n 2, 1) := by decide +kernel
theorem dX0_at_15 : decode cX0_at 15 = .ok (.i2l, 1) := by decide +kernel
theorem dX0_at_16 : decode cX0_at 16 = .ok (.lconst 0, 1) := by decide +kernel
theorem dX0_at_17 : decode cX0_at 17 = .ok (.ldc2_w 222, 3) := by decide +kernel
theorem dX0_at_20 : decode cX0_at 20 = .ok (.invokestatic 101, 3) := by decide +kernel
theorem dX0_at_23 : decode cX0_at 23 = .ok (.ifCond .ne 6, 3) := by decide +kernel
theorem dX0_at_26 : decode cX0_at 26 = .ok (.ldc 206, 2) := by decide +kernel
theorem dX0_at_28 : decode cX0_at 28 = .ok (.ireturn, 1) := by decide +kernel
theorem dX0_at_29 : decode cX0_at 29 = .ok (.aload_n 0, 1) := by decide +kernel
theorem dX0_at_30 : decode cX0_at 30 = .ok (.iload_n 1, 1) := by decide +kernel
theorem dX0_at_31 : decode cX0_at 31 = .ok (.invokevirtual 224, 3) := by decide +kernel
theorem dX0_at_34 : decode cX0_at 34 = .ok (.istore_n 3, 1) := by decide +kernel
theorem dX0_at_35 : decode cX0_at 35 = .ok (.iload_n 3, 1) := by decide +kernel
theorem dX0_at_36 : decode cX0_at 36 = .ok (.ldc 206, 2) := by decide +kernel
theorem dX0_at_38 : decode cX0_at 38 = .ok (.if_icmp .ne 8, 3) := by decide +kernel
theorem dX0_at_41 : decode cX0_at 41 = .ok (.ldc 206, 2) := by decide +kernel
theorem dX0_at_43 : decode cX0_at 43 = .ok (.goto 38, 3) := by decide +kernel
theorem dX0_at_46 : decode cX0_at 46 = .ok (.iload_n 2, 1) := by decide +kernel
theorem dX0_at_47 : decode cX0_at 47 = .ok (.ifCond .ne 7, 3) := by decide +kernel
theorem dX0_at_50 : decode cX0_at 50 = .ok (.iload_n 3, 1) := by decide +kernel
theorem dX0_at_51 : decode cX0_at 51 = .ok (.goto 30, 3) := by decide +kernel
theorem dX0_at_54 : decode cX0_at 54 = .ok (.iload_n 2, 1) := by decide +kernel
theorem dX0_at_55 : decode cX0_at 55 = .ok (.iconst 1, 1) := by decide +kernel
theorem dX0_at_56 : decode cX0_at 56 = .ok (.if_icmp .ne 12, 3) := by decide +kernel
theorem dX0_at_59 : decode cX0_at 59 = .ok (.aload_n 0, 1) := by decide +kernel
theorem dX0_at_60 : decode cX0_at 60 = .ok (.iload_n 1, 1) := by decide +kernel
theorem dX0_at_61 : decode cX0_at 61 = .ok (.iload_n 3, 1) := by decide +kernel
theorem dX0_at_62 : decode cX0_at 62 = .ok (.invokevirtual 202, 3) := by decide +kernel
theorem dX0_at_65 : decode cX0_at 65 = .ok (.goto 16, 3) := by decide +kernel
theorem dX0_at_68 : decode cX0_at 68 = .ok (.aload_n 0, 1) := by decide +kernel
theorem dX0_at_69 : decode cX0_at 69 = .ok (.iload_n 1, 1) := by decide +kernel
theorem dX0_at_70 : decode cX0_at 70 = .ok (.iload_n 3, 1) := by decide +kernel
theorem dX0_at_71 : decode cX0_at 71 = .ok (.aload_n 0, 1) := by decide +kernel
theorem dX0_at_72 : decode cX0_at 72 = .ok (.getfield 68, 3) := by decide +kernel
theorem dX0_at_75 : decode cX0_at 75 = .ok (.getfield 151, 3) := by decide +kernel
theorem dX0_at_78 : decode cX0_at 78 = .ok (.invokevirtual 227, 3) := by decide +kernel
theorem dX0_at_81 : decode cX0_at 81 = .ok (.ireturn, 1) := by decide +kernel
set_option maxHeartbeats 4000000 in
theorem cat_ (l : Launch) (adK adV st : Nat → Nat) (D : va_G) (E : Nat → ClassId) (A : Nat → Prop) (ad nv : Nat → Nat) (I : Nat → Int) (F : Nat → Int → Int) (S : Nat → Nat → Int) (Y : Nat → Int → Int) (L : Nat → Nat) (sl wh : Int) (pl : Int → Int) (epl : ∀ w, 0 ≤ w → w < I 4 → Y 21 w = pl w) (gp0 : Bd pl 12 (-19) 19) (r_s : R32 sl) (r_w : R32 wh) (hn : cOK nv I L) (gh0 : gHull I F) (gl0 : gLoad I F) : JM l yX0_at cX0_at 4 (some .int) (mrm 5) (CX adK adV st D E A ad nv I F S Y L) [.ref (ad 0), .int (iI sl), .int (iI wh)] (vp_Si (fun r => r = iI (atS (lvF (I 1) (F 2) (F 3) (heavyS (I 4) (F 9) (F 5) (I 10) (F 14))) (fun sl => pushS (I 1) (F 2) (F 3) sl ((lvF (I 1) (F 2) (F 3) (heavyS (I 4) (F 9) (F 5) (I 10) (F 14))) sl)) (arF (I 1) (F 2) (F 3) (heavyS (I 4) (F 9) (F 5) (I 10) (F 14)) (downS (I 4) (F 9) (F 5) pl (F 7) (I 10) (F 14) (F 13) (F 11) (F 12))) sl wh))) := by
  refine j_start (by decide) rfl (Nat.le_of_ble_eq_true rfl) ?_
  intro p e R s m args below meth c ls Q hR hQ hC hml hr hlk hB hl
  have hx := hC.1
  have hb := hC.2.1
  have hown := hC.2.2.1
  have hts := hC.2.2.2
  have hS : va_S A s.heap s.heap [] := va_S.rf
  have hK := hB.1
  have hG := hB.2.1
  have hE := hB.2.2
  have hCK : CK p m c _ s args _ D E := ⟨hx, hb, hown, hts, hK⟩
  have hl : lv_has ls 4 [(0, .ref (ad 0)), (1, .int (iI sl)), (2, .int (iI wh))] := hl
  obtain ⟨i1, a2, a3⟩ := id gh0
  obtain ⟨i4, a5, a6, a7, a8, a9, i10, a11, a12, a13, a14, a14h⟩ := id gl0
  have hhv := heavyS_bd (lost := F 9) i4 i10 a5 a14
  have hpb : ∀ sl y, 0 ≤ pushS (I 1) (F 2) (F 3) sl y ∧ pushS (I 1) (F 2) (F 3) sl y ≤ 21600 := fun sl y => pushS_bd sl y i1 a2 a3
  have hub : ∀ sl y, -80 ≤ sl ∧ sl ≤ 80 → -69552000 ≤ upS (I 1) (F 2) (F 3) sl y ∧ upS (I 1) (F 2) (F 3) sl y ≤ 69552000 := fun sl y q => upS_bd y q i1 a2 a3
  refine lv_iload_n hx hb dX0_at_0 rfl (lv_at hl 1 rfl) ?_
  refine r_i2l hx hb dX0_at_1 (by omega) ?_
  refine r_ldc2 hx hb (-80) hown (hts _ q744) (by decide) dX0_at_2 ?_
  refine r_ldc2 hx hb 80 hown (hts _ q667) (by decide) dX0_at_5 ?_
  refine s_calli (j_runS (n := 3) (rest := []) (as := [.long (iL sl), .long (iL (-80)), .long (iL 80)]) hx hb hml hown hts ((cin l sl (-80) 80 (by omega) (by decide) (by decide)).jm) (fun _ _ _ _ _ => trivial) (fun _ _ _ => trivial) q296 q297 q68 q298 (by decide +kernel) ⟨rfl, rfl⟩ hR (by decide) ⟨Nat.zero_le _, Nat.zero_le _⟩ rfl hl.1 rfl (Nat.le_of_ble_eq_true rfl) dX0_at_8) ?_
  refine r_ifeqB (tgt := 26) hx hb dX0_at_11 (by decide) (fun c1 => ?_) (fun c1 => ?_)
  · refine r_ldc hx hb (-2147483648) hown (hts _ q746) (by decide) dX0_at_26 ?_
    exact j_iret hC hr hlk hQ dX0_at_28 (by unfold atS; rw [if_neg (by omega)])
  · refine lv_iload_n hx hb dX0_at_14 rfl (lv_at hl 2 rfl) ?_
    refine r_i2l hx hb dX0_at_15 (by omega) ?_
    refine r_lconst hx hb 0 dX0_at_16 (by decide) ?_
    refine r_ldc2 hx hb 2 hown (hts _ q745) (by decide) dX0_at_17 ?_
    refine s_calli (j_runS (n := 3) (rest := []) (as := [.long (iL wh), .long (iL 0), .long (iL 2)]) hx hb hml hown hts ((cin l wh 0 2 (by omega) (by decide) (by decide)).jm) (fun _ _ _ _ _ => trivial) (fun _ _ _ => trivial) q296 q297 q68 q298 (by decide +kernel) ⟨rfl, rfl⟩ hR (by decide) ⟨Nat.zero_le _, Nat.zero_le _⟩ rfl hl.1 rfl (Nat.le_of_ble_eq_true rfl) dX0_at_20) ?_
    refine r_ifneB (tgt := 29) hx hb dX0_at_23 (by decide) (fun c2 => ?_) (fun c2 => ?_)
    · refine lv_aload_n hx hb dX0_at_29 rfl (lv_at hl 0 rfl) ?_
      refine lv_iload_n hx hb dX0_at_30 rfl (lv_at hl 1 rfl) ?_
      refine s_calli (j_runV (n := 1) (C := RX0) (b := ad 0) (rest := []) (as := [.int (iI sl)]) hx hb hml hown hts (clevel l adK adV st D E A ad nv I F S Y L sl (by omega) hn gh0 gl0) GB.blind (GB.at hK hG hE hS) (g_rec (r := 0) (ci := 0) hK hG (Or.inl (by decide)) rfl cC_0) q747 q749 qs18 q68 q750 (by decide +kernel) ⟨rfl, rfl⟩ hR (by decide) ⟨Nat.zero_le _, Nat.zero_le _⟩ rfl hl.1 rfl (Nat.le_of_ble_eq_true rfl) dX0_at_31) ?_
      obtain ⟨lv, h_lv⟩ : ∃ x : Int, x = lvF (I 1) (F 2) (F 3) (heavyS (I 4) (F 9) (F 5) (I 10) (F 14)) sl := ⟨_, rfl⟩
      refine W.eq (g2 := F0 m 34 ls [.int (iI lv)]) (by subst h_lv; rfl) ?_
      have hlo : lv = -2147483648 ∨ (-2000 ≤ lv ∧ lv ≤ 4000) := by rw [h_lv]; exact levelS_or _ _
      refine lv_istore_n (lv' := [(3, .int (iI lv)), (0, .ref (ad 0)), (1, .int (iI sl)), (2, .int (iI wh))]) hx hb dX0_at_34 rfl hl (by decide) rfl (fun ls hl => ?_)
      refine lv_iload_n hx hb dX0_at_35 rfl (lv_at hl 0 rfl) ?_
      refine r_ldc hx hb (-2147483648) hown (hts _ q746) (by decide) dX0_at_36 ?_
      refine r_icmp_ne (tgt := 46) hx hb dX0_at_38 (by decide) (by omega) (by decide) (fun cv => ?_) (fun cv => ?_)
      · have cv2 : lvF (I 1) (F 2) (F 3) (heavyS (I 4) (F 9) (F 5) (I 10) (F 14)) sl ≠ -2147483648 := by rw [← h_lv]; exact cv
        have hin := levelS_in (hv := heavyS (I 4) (F 9) (F 5) (I 10) (F 14)) (f := pushS (I 1) (F 2) (F 3) sl) cv2
        have hpp : 0 < pushS (I 1) (F 2) (F 3) sl lv := by have q1 := hin.2.1; have q2 := hin.2.2; rw [h_lv]; unfold lvF; omega
        refine lv_iload_n hx hb dX0_at_46 rfl (lv_at hl 3 rfl) ?_
        refine r_if_ne (tgt := 54) hx hb dX0_at_47 (by decide) (by omega) (fun c3 => ?_) (fun c3 => ?_)
        · refine lv_iload_n hx hb dX0_at_54 rfl (lv_at hl 3 rfl) ?_
          refine r_iconst hx hb dX0_at_55 ?_
          refine r_icmp_ne (tgt := 68) hx hb dX0_at_56 (by decide) (by omega) (by decide) (fun c4 => ?_) (fun c4 => ?_)
          · refine lv_aload_n hx hb dX0_at_68 rfl (lv_at hl 1 rfl) ?_
            refine lv_iload_n hx hb dX0_at_69 rfl (lv_at hl 2 rfl) ?_
            refine lv_iload_n hx hb dX0_at_70 rfl (lv_at hl 0 rfl) ?_
            refine lv_aload_n hx hb dX0_at_71 rfl (lv_at hl 1 rfl) ?_
            refine cg_X0_68 hCK hG dX0_at_72 ?_
            refine cg_X0_151 hCK hE hG (r := 19) (Or.inl rfl) dX0_at_75 ?_
            refine s_calli (j_runV (n := 3) (C := RX0) (b := ad 0) (rest := []) (as := [.int (iI sl), .int (iI lv), .ref (ad (21 + 4 * (19 - 19)))]) hx hb hml hown hts (carm l adK adV st D E A ad nv I F S Y L sl lv (21 + 4 * (19 - 19)) (Y 21) pl (Or.inl (by decide)) (cC_s0 (r := 19) (Or.inl rfl)) epl gp0 (by omega) (by omega) hpp hn gh0 gl0) GB.blind (GB.at hK hG hE hS) (g_rec (r := 0) (ci := 0) hK hG (Or.inl (by decide)) rfl cC_0) q766 q768 qs21 q68 q769 (by decide +kernel) ⟨rfl, rfl⟩ hR (by decide) ⟨Nat.zero_le _, Nat.zero_le _⟩ rfl hl.1 rfl (Nat.le_of_ble_eq_true rfl) dX0_at_78) ?_
            exact j_iret hC hr hlk hQ dX0_at_81 (by unfold atS arF; rw [if_pos (by omega), ← h_lv, if_neg cv, if_neg (by omega), if_neg (by omega)])
          · refine lv_aload_n hx hb dX0_at_59 rfl (lv_at hl 1 rfl) ?_
            refine lv_iload_n hx hb dX0_at_60 rfl (lv_at hl 2 rfl) ?_
            refine lv_iload_n hx hb dX0_at_61 rfl (lv_at hl 0 rfl) ?_
            refine s_calli (j_runV (n := 2) (C := RX0) (b := ad 0) (rest := []) (as := [.int (iI sl), .int (iI lv)]) hx hb hml hown hts (cpush l adK adV st D E A ad nv I F S Y L sl lv (by omega) (by omega) hn gh0) GB.blind (GB.at hK hG hE hS) (g_rec (r := 0) (ci := 0) hK hG (Or.inl (by decide)) rfl cC_0) q755 q757 qs20 q68 q758 (by decide +kernel) ⟨rfl, rfl⟩ hR (by decide) ⟨Nat.zero_le _, Nat.zero_le _⟩ rfl hl.1 rfl (Nat.le_of_ble_eq_true rfl) dX0_at_62) ?_
            refine lv_goto (tgt := 81) hx hb dX0_at_65 (by decide) ?_
            exact j_iret hC hr hlk hQ dX0_at_81 (by unfold atS; rw [if_pos (by omega), ← h_lv, if_neg cv, if_neg (by omega), if_pos (by omega)]; show _ = pushS (I 1) (F 2) (F 3) sl ((lvF (I 1) (F 2) (F 3) (heavyS (I 4) (F 9) (F 5) (I 10) (F 14))) sl); rw [← h_lv])
        · refine lv_iload_n hx hb dX0_at_50 rfl (lv_at hl 0 rfl) ?_
          refine lv_goto (tgt := 81) hx hb dX0_at_51 (by decide) ?_
          exact j_iret hC hr hlk hQ dX0_at_81 (by unfold atS; rw [if_pos (by omega), ← h_lv, if_neg cv, if_pos (by omega)])
      · refine r_ldc hx hb (-2147483648) hown (hts _ q746) (by decide) dX0_at_41 ?_
        refine lv_goto (tgt := 81) hx hb dX0_at_43 (by decide) ?_
        exact j_iret hC hr hlk hQ dX0_at_81 (by unfold atS; rw [if_pos (by omega), ← h_lv, if_pos cv])
    · refine r_ldc hx hb (-2147483648) hown (hts _ q746) (by decide) dX0_at_26 ?_
      exact j_iret hC hr hlk hQ dX0_at_28 (by unfold atS; rw [if_neg (by omega)])
theorem dX0_weightAt_0 : decode cX0_weightAt 0 = .ok (.iload_n 1, 1) := by decide +kernel
theorem dX0_weightAt_1 : decode cX0_weightAt 1 = .ok (.i2l, 1) := by decide +kernel
theorem dX0_weightAt_2 : decode cX0_weightAt 2 = .ok (.lconst 0, 1) := by decide +kernel
theorem dX0_weightAt_3 : decode cX0_weightAt 3 = .ok (.aload_n 0, 1) := by decide +kernel
theorem dX0_weightAt_4 : decode cX0_weightAt 4 = .ok (.getfield 38, 3) := by decide +kernel
theorem dX0_weightAt_7 : decode cX0_weightAt 7 = .ok (.invokevirtual 125, 3) := by decide +kernel
theorem dX0_weightAt_10 : decode cX0_weightAt 10 = .ok (.iconst 1, 1) := by decide +kernel
theorem dX0_weightAt_11 : decode cX0_weightAt 11 = .ok (.isub, 1) := by decide +kernel
theorem dX0_weightAt_12 : decode cX0_weightAt 12 = .ok (.i2l, 1) := by decide +kernel
theorem dX0_weightAt_13 : decode cX0_weightAt 13 = .ok (.invokestatic 101, 3) := by decide +kernel
theorem dX0_weightAt_16 : decode cX0_weightAt 16 = .ok (.ifCond .eq 34, 3) := by decide +kernel
theorem dX0_weightAt_19 : decode cX0_weightAt 19 = .ok (.aload_n 0, 1) := by decide +kernel
theorem dX0_weightAt_20 : decode cX0_weightAt 20 = .ok (.getfield 38, 3) := by decide +kernel
theorem dX0_weightAt_23 : decode cX0_weightAt 23 = .ok (.iload_n 1, 1) := by decide +kernel
theorem dX0_weightAt_24 : decode cX0_weightAt 24 = .ok (.invokevirtual 159, 3) := by decide +kernel
theorem dX0_weightAt_27 : decode cX0_weightAt 27 = .ok (.checkcast 154, 3) := by decide +kernel
theorem dX0_weightAt_30 : decode cX0_weightAt 30 = .ok (.getfield 163, 3) := by decide +kernel
theorem dX0_weightAt_33 : decode cX0_weightAt 33 = .ok (.ifCond .ne 17, 3) := by decide +kernel
theorem dX0_weightAt_36 : decode cX0_weightAt 36 = .ok (.aload_n 0, 1) := by decide +kernel
theorem dX0_weightAt_37 : decode cX0_weightAt 37 = .ok (.getfield 38, 3) := by decide +kernel
theorem dX0_weightAt_40 : decode cX0_weightAt 40 = .ok (.iload_n 1, 1) := by decide +kernel
theorem dX0_weightAt_41 : decode cX0_weightAt 41 = .ok (.invokevirtual 159, 3) := by decide +kernel
theorem dX0_weightAt_44 : decode cX0_weightAt 44 = .ok (.checkcast 154, 3) := by decide +kernel
theorem dX0_weightAt_47 : decode cX0_weightAt 47 = .ok (.goto 4, 3) := by decide +kernel
theorem dX0_weightAt_50 : decode cX0_weightAt 50 = .ok (.aconst_null, 1) := by decide +kernel
theorem dX0_weightAt_51 : decode cX0_weightAt 51 = .ok (.areturn, 1) := by decide +kernel
set_option maxHeartbeats 4000000 in
theorem cwat (l : Launch) (adK adV st : Nat → Nat) (D : va_G) (E : Nat → ClassId) (A : Nat → Prop) (ad nv : Nat → Nat) (I : Nat → Int) (F : Nat → Int → Int) (S : Nat → Nat → Int) (Y : Nat → Int → Int) (L : Nat → Nat) (wt : Int) (r_w : R32 wt) (hn : cOK nv I L) (gl0 : gLoad I F) : JM l yX0_weightAt cX0_weightAt 2 (some (.object "ShipSways$Weight")) (mrm 3) (CX adK adV st D E A ad nv I F S Y L) [.ref (ad 0), .int (iI wt)] (vp_S1 (if 0 ≤ wt ∧ wt < I 4 ∧ F 9 wt = 0 then .ref (ad (3200 + wt.toNat)) else .null)) := by
  refine j_start (by decide) rfl (Nat.le_of_ble_eq_true rfl) ?_
  intro p e R s m args below meth c ls Q hR hQ hC hml hr hlk hB hl
  have hx := hC.1
  have hb := hC.2.1
  have hown := hC.2.2.1
  have hts := hC.2.2.2
  have hS : va_S A s.heap s.heap [] := va_S.rf
  have hK := hB.1
  have hG := hB.2.1
  have hE := hB.2.2
  have hCK : CK p m c _ s args _ D E := ⟨hx, hb, hown, hts, hK⟩
  have hl : lv_has ls 2 [(0, .ref (ad 0)), (1, .int (iI wt))] := hl
  obtain ⟨⟨n0, n1, n2, n3⟩, ⟨l0, l1, l2, l3⟩, c0, c1, c2, c3⟩ := id hn
  obtain ⟨i4, a5, a6, a7, a8, a9, i10, a11, a12, a13, a14, a14h⟩ := id gl0
  refine lv_iload_n hx hb dX0_weightAt_0 rfl (lv_at hl 1 rfl) ?_
  refine r_i2l hx hb dX0_weightAt_1 (by omega) ?_
  refine r_lconst hx hb 0 dX0_weightAt_2 (by decide) ?_
  refine lv_aload_n hx hb dX0_weightAt_3 rfl (lv_at hl 0 rfl) ?_
  refine cg_X0_38 hCK hG dX0_weightAt_4 ?_
  refine s_calli (j_runV (n := 0) (C := RJ2) (b := ad 12) (rest := [.long (iL 0), .long (iL wt)]) (as := []) hx hb hml hown hts (lsz_12 l adK adV st D E A ad nv I F S Y L) GB.blind (GB.at hK hG hE hS) (g_rec (r := 12) (ci := 10) hK hG (Or.inl (by decide)) rfl (cC_l (by decide))) q641 q614 q615 q71 q616 (by decide +kernel) ⟨rfl, rfl⟩ hR (by decide) ⟨Nat.zero_le _, Nat.zero_le _⟩ rfl hl.1 rfl (Nat.le_of_ble_eq_true rfl) dX0_weightAt_7) ?_
  refine r_iconst hx hb dX0_weightAt_10 ?_
  refine r_isub hx hb dX0_weightAt_11 ?_
  refine r_i2l hx hb dX0_weightAt_12 (by omega) ?_
  refine s_calli (j_runS (n := 3) (rest := []) (as := [.long (iL wt), .long (iL 0), .long (iL ((I 4) - 1))]) hx hb hml hown hts ((cin l wt 0 ((I 4) - 1) (by omega) (by decide) (by omega)).jm) (fun _ _ _ _ _ => trivial) (fun _ _ _ => trivial) q296 q297 q68 q298 (by decide +kernel) ⟨rfl, rfl⟩ hR (by decide) ⟨Nat.zero_le _, Nat.zero_le _⟩ rfl hl.1 rfl (Nat.le_of_ble_eq_true rfl) dX0_weightAt_13) ?_
  refine r_ifeqB (tgt := 50) hx hb dX0_weightAt_16 (by decide) (fun c1 => ?_) (fun c1 => ?_)
  · refine lv_null hx hb dX0_weightAt_50 ?_
    exact j_aret hC hr hlk (Or.inl ⟨_, rfl⟩) (Or.inl rfl) hQ dX0_weightAt_51 (by rw [if_neg (by omega)])
  · have b9 := a9 wt (by omega) (by omega)
    refine lv_aload_n hx hb dX0_weightAt_19 rfl (lv_at hl 0 rfl) ?_
    refine cg_X0_38 hCK hG dX0_weightAt_20 ?_
    refine lv_iload_n hx hb dX0_weightAt_23 rfl (lv_at hl 1 rfl) ?_
    refine j_callr (j_runV (n := 1) (C := RJ2) (b := ad 12) (rest := []) (as := [.int (iI wt)]) hx hb hml hown hts (lgt_12 l adK adV st D E A ad nv I F S Y L wt (by omega) (by omega) (by omega)) GB.blind (GB.at hK hG hE hS) (g_rec (r := 12) (ci := 10) hK hG (Or.inl (by decide)) rfl (cC_l (by decide))) q703 q620 q621 q71 q622 (by decide +kernel) ⟨rfl, rfl⟩ hR (by decide) ⟨Nat.zero_le _, Nat.zero_le _⟩ rfl hl.1 rfl (Nat.le_of_ble_eq_true rfl) dX0_weightAt_24) ?_
    refine c_cast (r := 3200 + wt.toNat) (ci := 4) hCK hG (by have := (show (0 : Int) ≤ wt ∧ wt < 100 by omega); unfold cV; omega) rfl (cC_wt (by have := (show (0 : Int) ≤ wt ∧ wt < 100 by omega); omega)) q668 dX0_weightAt_27 ?_
    refine cg_X0_163 (v := F 9 wt) (z := wt) hCK hE hG (by omega) rfl dX0_weightAt_30 ?_
    refine r_if_ne (tgt := 50) hx hb dX0_weightAt_33 (by decide) (by omega) (fun c2 => ?_) (fun c2 => ?_)
    · refine lv_null hx hb dX0_weightAt_50 ?_
      exact j_aret hC hr hlk (Or.inl ⟨_, rfl⟩) (Or.inl rfl) hQ dX0_weightAt_51 (by rw [if_neg (by omega)])
    · refine lv_aload_n hx hb dX0_weightAt_36 rfl (lv_at hl 0 rfl) ?_
      refine cg_X0_38 hCK hG dX0_weightAt_37 ?_
      refine lv_iload_n hx hb dX0_weightAt_40 rfl (lv_at hl 1 rfl) ?_
      refine j_callr (j_runV (n := 1) (C := RJ2) (b := ad 12) (rest := []) (as := [.int (iI wt)]) hx hb hml hown hts (lgt_12 l adK adV st D E A ad nv I F S Y L wt (by omega) (by omega) (by omega)) GB.blind (GB.at hK hG hE hS) (g_rec (r := 12) (ci := 10) hK hG (Or.inl (by decide)) rfl (cC_l (by decide))) q703 q620 q621 q71 q622 (by decide +kernel) ⟨rfl, rfl⟩ hR (by decide) ⟨Nat.zero_le _, Nat.zero_le _⟩ rfl hl.1 rfl (Nat.le_of_ble_eq_true rfl) dX0_weightAt_41) ?_
      refine c_cast (r := 3200 + wt.toNat) (ci := 4) hCK hG (by have := (show (0 : Int) ≤ wt ∧ wt < 100 by omega); unfold cV; omega) rfl (cC_wt (by have := (show (0 : Int) ≤ wt ∧ wt < 100 by omega); omega)) q668 dX0_weightAt_44 ?_
      refine lv_goto (tgt := 51) hx hb dX0_weightAt_47 (by decide) ?_
      exact j_aret hC hr hlk (Or.inl ⟨_, rfl⟩) (Or.inr ⟨_, rfl⟩) hQ dX0_weightAt_51 (by rw [if_pos (by omega)])
