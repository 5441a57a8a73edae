/-! THE MODEL: its reader -/
set_option maxRecDepth 100000
theorem stepS_0 (x : Int → Int) (n p : Int) (stk : List Int) (d : Int) (out : List (Int × Int)) (cl : Int) (bg cs : Int → Int) : stepS x n 0 p stk d out cl bg cs = (if tK x n p = 0 then some (p, stk, d, out, cl, bg, cs) else if tK x n p = 2 ∧ (0 ≤ tV x n p ∧ tV x n p ≤ 1) ∧ bg (tV x n p) = -1 then some (tT x n p, 6 :: 159 :: 13 :: 0 :: stk, d, out, tV x n p, updZ bg (tV x n p) out.length, cs) else none) := by
  unfold stepS
  rw [if_neg (by decide), if_neg (by decide), if_pos rfl]
theorem stepS_1 (x : Int → Int) (n p : Int) (stk : List Int) (d : Int) (out : List (Int × Int)) (cl : Int) (bg cs : Int → Int) : stepS x n 1 p stk d out cl bg cs = some (p, 3 :: 2 :: stk, d, out, cl, bg, cs) := by
  unfold stepS
  rw [if_neg (by decide), if_neg (by decide), if_neg (by decide), if_pos rfl]
theorem stepS_2 (x : Int → Int) (n p : Int) (stk : List Int) (d : Int) (out : List (Int × Int)) (cl : Int) (bg cs : Int → Int) : stepS x n 2 p stk d out cl bg cs = (if tK x n p = 3 ∧ (tV x n p = 43 ∨ tV x n p = 45) then some (tT x n p, 3 :: (1000 + if tV x n p = 43 then 2 else 3) :: 2 :: stk, d, out, cl, bg, cs) else some (p, stk, d, out, cl, bg, cs)) := by
  unfold stepS
  rw [if_neg (by decide), if_neg (by decide), if_neg (by decide), if_neg (by decide), if_pos rfl]
theorem stepS_3 (x : Int → Int) (n p : Int) (stk : List Int) (d : Int) (out : List (Int × Int)) (cl : Int) (bg cs : Int → Int) : stepS x n 3 p stk d out cl bg cs = some (p, 5 :: 4 :: stk, d, out, cl, bg, cs) := by
  unfold stepS
  rw [if_neg (by decide), if_neg (by decide), if_neg (by decide), if_neg (by decide), if_neg (by decide), if_pos rfl]
theorem stepS_4 (x : Int → Int) (n p : Int) (stk : List Int) (d : Int) (out : List (Int × Int)) (cl : Int) (bg cs : Int → Int) : stepS x n 4 p stk d out cl bg cs = (if tK x n p = 3 ∧ (tV x n p = 42 ∨ tV x n p = 47) then some (tT x n p, 5 :: (1000 + if tV x n p = 42 then 4 else 5) :: 4 :: stk, d, out, cl, bg, cs) else some (p, stk, d, out, cl, bg, cs)) := by
  unfold stepS
  rw [if_neg (by decide), if_neg (by decide), if_neg (by decide), if_neg (by decide), if_neg (by decide), if_neg (by decide), if_pos rfl]
theorem stepS_5 (x : Int → Int) (n p : Int) (stk : List Int) (d : Int) (out : List (Int × Int)) (cl : Int) (bg cs : Int → Int) : stepS x n 5 p stk d out cl bg cs = (if tK x n p = 1 then (if 9999 < tV x n p then none else some (tT x n p, stk, d, out ++ [(0, tV x n p)], cl, bg, cs)) else if tK x n p = 2 ∧ (2 ≤ tV x n p ∧ tV x n p ≤ 8) then some (tT x n p, stk, d, out ++ [(1, tV x n p - 2)], cl, bg, cs) else if tK x n p = 3 ∧ tV x n p = 40 ∧ d ≠ 8 then some (tT x n p, 1 :: 141 :: 12 :: stk, d + 1, out, cl, bg, cs) else none) := by
  unfold stepS
  rw [if_neg (by decide), if_neg (by decide), if_neg (by decide), if_neg (by decide), if_neg (by decide), if_neg (by decide), if_neg (by decide), if_pos rfl]
theorem stepS_6 (x : Int → Int) (n p : Int) (stk : List Int) (d : Int) (out : List (Int × Int)) (cl : Int) (bg cs : Int → Int) : stepS x n 6 p stk d out cl bg cs = some (p, 8 :: 7 :: stk, d, out, cl, bg, cs) := by
  unfold stepS
  rw [if_neg (by decide), if_neg (by decide), if_neg (by decide), if_neg (by decide), if_neg (by decide), if_neg (by decide), if_neg (by decide), if_neg (by decide), if_pos rfl]
theorem stepS_7 (x : Int → Int) (n p : Int) (stk : List Int) (d : Int) (out : List (Int × Int)) (cl : Int) (bg cs : Int → Int) : stepS x n 7 p stk d out cl bg cs = (if tK x n p = 2 ∧ tV x n p = 9 then some (tT x n p, 8 :: 1010 :: 7 :: stk, d, out, cl, bg, cs) else some (p, stk, d, out, cl, bg, cs)) := by
  unfold stepS
  rw [if_neg (by decide), if_neg (by decide), if_neg (by decide), if_neg (by decide), if_neg (by decide), if_neg (by decide), if_neg (by decide), if_neg (by decide), if_neg (by decide), if_pos rfl]
theorem stepS_8 (x : Int → Int) (n p : Int) (stk : List Int) (d : Int) (out : List (Int × Int)) (cl : Int) (bg cs : Int → Int) : stepS x n 8 p stk d out cl bg cs = some (p, 10 :: 9 :: stk, d, out, cl, bg, cs) := by
  unfold stepS
  rw [if_neg (by decide), if_neg (by decide), if_neg (by decide), if_neg (by decide), if_neg (by decide), if_neg (by decide), if_neg (by decide), if_neg (by decide), if_neg (by decide), if_neg (by decide), if_pos rfl]
theorem stepS_9 (x : Int → Int) (n p : Int) (stk : List Int) (d : Int) (out : List (Int × Int)) (cl : Int) (bg cs : Int → Int) : stepS x n 9 p stk d out cl bg cs = (if tK x n p = 2 ∧ tV x n p = 10 then some (tT x n p, 10 :: 1009 :: 9 :: stk, d, out, cl, bg, cs) else some (p, stk, d, out, cl, bg, cs)) := by
  unfold stepS
  rw [if_neg (by decide), if_neg (by decide), if_neg (by decide), if_neg (by decide), if_neg (by decide), if_neg (by decide), if_neg (by decide), if_neg (by decide), if_neg (by decide), if_neg (by decide), if_neg (by decide), if_pos rfl]
theorem stepS_10 (x : Int → Int) (n p : Int) (stk : List Int) (d : Int) (out : List (Int × Int)) (cl : Int) (bg cs : Int → Int) : stepS x n 10 p stk d out cl bg cs = (if tK x n p = 2 ∧ tV x n p = 11 then (if d = 8 then none else some (tT x n p, 10 :: 1011 :: 12 :: stk, d + 1, out, cl, bg, cs)) else if tK x n p = 3 ∧ tV x n p = 91 then (if d = 8 then none else some (tT x n p, 6 :: 193 :: 12 :: stk, d + 1, out, cl, bg, cs)) else some (p, 1 :: 11 :: stk, d, out, cl, bg, cs)) := by
  unfold stepS
  rw [if_neg (by decide), if_neg (by decide), if_neg (by decide), if_neg (by decide), if_neg (by decide), if_neg (by decide), if_neg (by decide), if_neg (by decide), if_neg (by decide), if_neg (by decide), if_neg (by decide), if_neg (by decide), if_pos rfl]
theorem stepS_11 (x : Int → Int) (n p : Int) (stk : List Int) (d : Int) (out : List (Int × Int)) (cl : Int) (bg cs : Int → Int) : stepS x n 11 p stk d out cl bg cs = (if tK x n p = 3 ∧ (tV x n p = 60 ∨ tV x n p = 62 ∨ tV x n p = 61) then some (tT x n p, 1 :: (1000 + if tV x n p = 60 then 6 else if tV x n p = 62 then 7 else 8) :: stk, d, out, cl, bg, cs) else none) := by
  unfold stepS
  rw [if_neg (by decide), if_neg (by decide), if_neg (by decide), if_neg (by decide), if_neg (by decide), if_neg (by decide), if_neg (by decide), if_neg (by decide), if_neg (by decide), if_neg (by decide), if_neg (by decide), if_neg (by decide), if_neg (by decide), if_pos rfl]
theorem stepS_12 (x : Int → Int) (n p : Int) (stk : List Int) (d : Int) (out : List (Int × Int)) (cl : Int) (bg cs : Int → Int) : stepS x n 12 p stk d out cl bg cs = some (p, stk, d - 1, out, cl, bg, cs) := by
  unfold stepS
  rw [if_neg (by decide), if_neg (by decide), if_neg (by decide), if_neg (by decide), if_neg (by decide), if_neg (by decide), if_neg (by decide), if_neg (by decide), if_neg (by decide), if_neg (by decide), if_neg (by decide), if_neg (by decide), if_neg (by decide), if_neg (by decide), if_pos rfl]
theorem stepS_D (x : Int → Int) (n p : Int) (stk : List Int) (d : Int) (out : List (Int × Int)) (cl : Int) (bg cs : Int → Int) {s : Int} (h : 1000 ≤ s) : stepS x n s p stk d out cl bg cs = some (p, stk, d, out ++ [(s - 1000, 0)], cl, bg, cs) := by
  unfold stepS
  rw [if_pos h]
theorem stepS_G (x : Int → Int) (n p : Int) (stk : List Int) (d : Int) (out : List (Int × Int)) (cl : Int) (bg cs : Int → Int) {s : Int} (h : 100 ≤ s ∧ s < 1000) : stepS x n s p stk d out cl bg cs = (if tK x n p = 3 ∧ tV x n p = s - 100 then some (tT x n p, stk, d, out, cl, bg, cs) else none) := by
  unfold stepS
  rw [if_neg (by omega), if_pos h.1]
theorem stepS_X (x : Int → Int) (n p : Int) (stk : List Int) (d : Int) (out : List (Int × Int)) (cl : Int) (bg cs : Int → Int) {s : Int} (h : 12 < s ∧ s < 100) : stepS x n s p stk d out cl bg cs = some (p, stk, d, out, cl, bg, updZ cs cl out.length) := by
  unfold stepS
  rw [if_neg (by omega), if_neg (by omega), if_neg (by omega), if_neg (by omega), if_neg (by omega), if_neg (by omega), if_neg (by omega), if_neg (by omega), if_neg (by omega), if_neg (by omega), if_neg (by omega), if_neg (by omega), if_neg (by omega), if_neg (by omega), if_neg (by omega)]
/-- all goes well on the way -/
def goodX (x : Int → Int) (n : Int) : Nat → Int → List Int → Int → List (Int × Int) → Int → (Int → Int) → (Int → Int) → Prop
  | 0, _, _, _, _, _, _, _ => False
  | _ + 1, p, [], _, _, _, _, _ => 0 ≤ p ∧ p ≤ n
  | N + 1, p, s :: stk, d, out, cl, bg, cs => okS n p stk d out cl bg ∧ (0 ≤ s ∧ s ≤ 2000) ∧ match stepS x n s p stk d out cl bg cs with
    | none => True
    | some q => goodX x n N q.1 q.2.1 q.2.2.1 q.2.2.2.1 q.2.2.2.2.1 q.2.2.2.2.2.1 q.2.2.2.2.2.2
theorem dX2_steps_0 : decode cX2_steps 0 = .ok (.iload_n 1, 1) := by decide +kernel
theorem dX2_steps_1 : decode cX2_steps 1 = .ok (.sipush 1000, 3) := by decide +kernel
theorem dX2_steps_4 : decode cX2_steps 4 = .ok (.if_icmp .lt 15, 3) := by decide +kernel
theorem dX2_steps_7 : decode cX2_steps 7 = .ok (.aload_n 0, 1) := by decide +kernel
theorem dX2_steps_8 : decode cX2_steps 8 = .ok (.iload_n 1, 1) := by decide +kernel
theorem dX2_steps_9 : decode cX2_steps 9 = .ok (.sipush 1000, 3) := by decide +kernel
theorem dX2_steps_12 : decode cX2_steps 12 = .ok (.isub, 1) := by decide +kernel
theorem dX2_steps_13 : decode cX2_steps 13 = .ok (.iconst 0, 1) := by decide +kernel
theorem dX2_steps_14 : decode cX2_steps 14 = .ok (.invokevirtual 309, 3) := by decide +kernel
theorem dX2_steps_17 : decode cX2_steps 17 = .ok (.iconst 1, 1) := by decide +kernel
theorem dX2_steps_18 : decode cX2_steps 18 = .ok (.ireturn, 1) := by decide +kernel
theorem dX2_steps_19 : decode cX2_steps 19 = .ok (.iload_n 1, 1) := by decide +kernel
theorem dX2_steps_20 : decode cX2_steps 20 = .ok (.bipush 100, 2) := by decide +kernel
theorem dX2_steps_22 : decode cX2_steps 22 = .ok (.if_icmp .lt 27, 3) := by decide +kernel
theorem dX2_steps_25 : decode cX2_steps 25 = .ok (.aload_n 0, 1) := by decide +kernel
theorem dX2_steps_26 : decode cX2_steps 26 = .ok (.iload_n 1, 1) := by decide +kernel
theorem dX2_steps_27 : decode cX2_steps 27 = .ok (.bipush 100, 2) := by decide +kernel
theorem dX2_steps_29 : decode cX2_steps 29 = .ok (.isub, 1) := by decide +kernel
theorem dX2_steps_30 : decode cX2_steps 30 = .ok (.invokevirtual 312, 3) := by decide +kernel
theorem dX2_steps_33 : decode cX2_steps 33 = .ok (.ifCond .eq 14, 3) := by decide +kernel
theorem dX2_steps_36 : decode cX2_steps 36 = .ok (.aload_n 0, 1) := by decide +kernel
theorem dX2_steps_37 : decode cX2_steps 37 = .ok (.invokevirtual 315, 3) := by decide +kernel
theorem dX2_steps_40 : decode cX2_steps 40 = .ok (.ifCond .eq 7, 3) := by decide +kernel
theorem dX2_steps_43 : decode cX2_steps 43 = .ok (.iconst 1, 1) := by decide +kernel
theorem dX2_steps_44 : decode cX2_steps 44 = .ok (.goto 4, 3) := by decide +kernel
theorem dX2_steps_47 : decode cX2_steps 47 = .ok (.iconst 0, 1) := by decide +kernel
theorem dX2_steps_48 : decode cX2_steps 48 = .ok (.ireturn, 1) := by decide +kernel
theorem dX2_steps_49 : decode cX2_steps 49 = .ok (.iload_n 1, 1) := by decide +kernel
theorem dX2_steps_50 : decode cX2_steps 50 = .ok (.tableswitch 182 0 12 #[66, 71, 78, 91, 98, 111, 116, 125, 138, 147, 160, 165, 170], 66) := by decide +kernel
theorem dX2_steps_116 : decode cX2_steps 116 = .ok (.aload_n 0, 1) := by decide +kernel
theorem dX2_steps_117 : decode cX2_steps 117 = .ok (.invokevirtual 319, 3) := by decide +kernel
theorem dX2_steps_120 : decode cX2_steps 120 = .ok (.ireturn, 1) := by decide +kernel
theorem dX2_steps_121 : decode cX2_steps 121 = .ok (.aload_n 0, 1) := by decide +kernel
theorem dX2_steps_122 : decode cX2_steps 122 = .ok (.iconst 2, 1) := by decide +kernel
theorem dX2_steps_123 : decode cX2_steps 123 = .ok (.iconst 3, 1) := by decide +kernel
theorem dX2_steps_124 : decode cX2_steps 124 = .ok (.invokevirtual 322, 3) := by decide +kernel
theorem dX2_steps_127 : decode cX2_steps 127 = .ok (.ireturn, 1) := by decide +kernel
theorem dX2_steps_128 : decode cX2_steps 128 = .ok (.aload_n 0, 1) := by decide +kernel
theorem dX2_steps_129 : decode cX2_steps 129 = .ok (.bipush 43, 2) := by decide +kernel
theorem dX2_steps_131 : decode cX2_steps 131 = .ok (.iconst 2, 1) := by decide +kernel
theorem dX2_steps_132 : decode cX2_steps 132 = .ok (.bipush 45, 2) := by decide +kernel
theorem dX2_steps_134 : decode cX2_steps 134 = .ok (.iconst 3, 1) := by decide +kernel
theorem dX2_steps_135 : decode cX2_steps 135 = .ok (.iconst 2, 1) := by decide +kernel
theorem dX2_steps_136 : decode cX2_steps 136 = .ok (.iconst 3, 1) := by decide +kernel
theorem dX2_steps_137 : decode cX2_steps 137 = .ok (.invokevirtual 326, 3) := by decide +kernel
theorem dX2_steps_140 : decode cX2_steps 140 = .ok (.ireturn, 1) := by decide +kernel
theorem dX2_steps_141 : decode cX2_steps 141 = .ok (.aload_n 0, 1) := by decide +kernel
theorem dX2_steps_142 : decode cX2_steps 142 = .ok (.iconst 4, 1) := by decide +kernel
theorem dX2_steps_143 : decode cX2_steps 143 = .ok (.iconst 5, 1) := by decide +kernel
theorem dX2_steps_144 : decode cX2_steps 144 = .ok (.invokevirtual 322, 3) := by decide +kernel
theorem dX2_steps_147 : decode cX2_steps 147 = .ok (.ireturn, 1) := by decide +kernel
theorem dX2_steps_148 : decode cX2_steps 148 = .ok (.aload_n 0, 1) := by decide +kernel
theorem dX2_steps_149 : decode cX2_steps 149 = .ok (.bipush 42, 2) := by decide +kernel
theorem dX2_steps_151 : decode cX2_steps 151 = .ok (.iconst 4, 1) := by decide +kernel
theorem dX2_steps_152 : decode cX2_steps 152 = .ok (.bipush 47, 2) := by decide +kernel
theorem dX2_steps_154 : decode cX2_steps 154 = .ok (.iconst 5, 1) := by decide +kernel
theorem dX2_steps_155 : decode cX2_steps 155 = .ok (.iconst 4, 1) := by decide +kernel
theorem dX2_steps_156 : decode cX2_steps 156 = .ok (.iconst 5, 1) := by decide +kernel
theorem dX2_steps_157 : decode cX2_steps 157 = .ok (.invokevirtual 326, 3) := by decide +kernel
theorem dX2_steps_160 : decode cX2_steps 160 = .ok (.ireturn, 1) := by decide +kernel
theorem dX2_steps_161 : decode cX2_steps 161 = .ok (.aload_n 0, 1) := by decide +kernel
theorem dX2_steps_162 : decode cX2_steps 162 = .ok (.invokevirtual 330, 3) := by decide +kernel
theorem dX2_steps_165 : decode cX2_steps 165 = .ok (.ireturn, 1) := by decide +kernel
theorem dX2_steps_166 : decode cX2_steps 166 = .ok (.aload_n 0, 1) := by decide +kernel
theorem dX2_steps_167 : decode cX2_steps 167 = .ok (.bipush 7, 2) := by decide +kernel
theorem dX2_steps_169 : decode cX2_steps 169 = .ok (.bipush 8, 2) := by decide +kernel
theorem dX2_steps_171 : decode cX2_steps 171 = .ok (.invokevirtual 322, 3) := by decide +kernel
theorem dX2_steps_174 : decode cX2_steps 174 = .ok (.ireturn, 1) := by decide +kernel
theorem dX2_steps_175 : decode cX2_steps 175 = .ok (.aload_n 0, 1) := by decide +kernel
theorem dX2_steps_176 : decode cX2_steps 176 = .ok (.bipush 9, 2) := by decide +kernel
theorem dX2_steps_178 : decode cX2_steps 178 = .ok (.bipush 10, 2) := by decide +kernel
theorem dX2_steps_180 : decode cX2_steps 180 = .ok (.bipush 7, 2) := by decide +kernel
theorem dX2_steps_182 : decode cX2_steps 182 = .ok (.bipush 8, 2) := by decide +kernel
theorem dX2_steps_184 : decode cX2_steps 184 = .ok (.invokevirtual 333, 3) := by decide +kernel
theorem dX2_steps_187 : decode cX2_steps 187 = .ok (.ireturn, 1) := by decide +kernel
theorem dX2_steps_188 : decode cX2_steps 188 = .ok (.aload_n 0, 1) := by decide +kernel
theorem dX2_steps_189 : decode cX2_steps 189 = .ok (.bipush 9, 2) := by decide +kernel
theorem dX2_steps_191 : decode cX2_steps 191 = .ok (.bipush 10, 2) := by decide +kernel
theorem dX2_steps_193 : decode cX2_steps 193 = .ok (.invokevirtual 322, 3) := by decide +kernel
theorem dX2_steps_196 : decode cX2_steps 196 = .ok (.ireturn, 1) := by decide +kernel
theorem dX2_steps_197 : decode cX2_steps 197 = .ok (.aload_n 0, 1) := by decide +kernel
theorem dX2_steps_198 : decode cX2_steps 198 = .ok (.bipush 10, 2) := by decide +kernel
theorem dX2_steps_200 : decode cX2_steps 200 = .ok (.bipush 9, 2) := by decide +kernel
theorem dX2_steps_202 : decode cX2_steps 202 = .ok (.bipush 9, 2) := by decide +kernel
theorem dX2_steps_204 : decode cX2_steps 204 = .ok (.bipush 10, 2) := by decide +kernel
theorem dX2_steps_206 : decode cX2_steps 206 = .ok (.invokevirtual 333, 3) := by decide +kernel
theorem dX2_steps_209 : decode cX2_steps 209 = .ok (.ireturn, 1) := by decide +kernel
theorem dX2_steps_210 : decode cX2_steps 210 = .ok (.aload_n 0, 1) := by decide +kernel
theorem dX2_steps_211 : decode cX2_steps 211 = .ok (.invokevirtual 337, 3) := by decide +kernel
theorem dX2_steps_214 : decode cX2_steps 214 = .ok (.ireturn, 1) := by decide +kernel
theorem dX2_steps_215 : decode cX2_steps 215 = .ok (.aload_n 0, 1) := by decide +kernel
theorem dX2_steps_216 : decode cX2_steps 216 = .ok (.invokevirtual 340, 3) := by decide +kernel
theorem dX2_steps_219 : decode cX2_steps 219 = .ok (.ireturn, 1) := by decide +kernel
theorem dX2_steps_220 : decode cX2_steps 220 = .ok (.aload_n 0, 1) := by decide +kernel
theorem dX2_steps_221 : decode cX2_steps 221 = .ok (.dup, 1) := by decide +kernel
theorem dX2_steps_222 : decode cX2_steps 222 = .ok (.getfield 303, 3) := by decide +kernel
theorem dX2_steps_225 : decode cX2_steps 225 = .ok (.iconst 1, 1) := by decide +kernel
theorem dX2_steps_226 : decode cX2_steps 226 = .ok (.isub, 1) := by decide +kernel
theorem dX2_steps_227 : decode cX2_steps 227 = .ok (.putfield 303, 3) := by decide +kernel
theorem dX2_steps_230 : decode cX2_steps 230 = .ok (.iconst 1, 1) := by decide +kernel
theorem dX2_steps_231 : decode cX2_steps 231 = .ok (.ireturn, 1) := by decide +kernel
theorem dX2_steps_232 : decode cX2_steps 232 = .ok (.aload_n 0, 1) := by decide +kernel
theorem dX2_steps_233 : decode cX2_steps 233 = .ok (.getfield 142, 3) := by decide +kernel
theorem dX2_steps_236 : decode cX2_steps 236 = .ok (.aload_n 0, 1) := by decide +kernel
theorem dX2_steps_237 : decode cX2_steps 237 = .ok (.getfield 343, 3) := by decide +kernel
theorem dX2_steps_240 : decode cX2_steps 240 = .ok (.aload_n 0, 1) := by decide +kernel
theorem dX2_steps_241 : decode cX2_steps 241 = .ok (.getfield 297, 3) := by decide +kernel
theorem dX2_steps_244 : decode cX2_steps 244 = .ok (.iastore, 1) := by decide +kernel
theorem dX2_steps_245 : decode cX2_steps 245 = .ok (.iconst 1, 1) := by decide +kernel
theorem dX2_steps_246 : decode cX2_steps 246 = .ok (.ireturn, 1) := by decide +kernel
set_option maxHeartbeats 4000000 in
theorem met_steps (l : Launch) (adK adV st : Nat → Nat) (D : va_G) (E : Nat → ClassId) (A : Nat → Prop) (h : Nat) (ad : Nat → Nat) (I : Nat → Int) (F : Nat → Int → Int) (I9 : Nat → Int) (F9 : Nat → Int → Int) (sz : Int) (pz : Int) (stk : List Int) (d : Int) (out : List (Int × Int)) (cl : Int) (bg cs : Int → Int) (gl0 : gTxt I9 F9) (r_s : 0 ≤ sz ∧ sz ≤ 2000) (hok : okS (I9 48) pz stk d out cl bg) (hRep : RepS I9 F9 pz stk d out cl bg cs I F) : ME l yX2_steps cX2_steps 2 (some .boolean) (mrm 8) adK adV st D E A h ad [.int (iI sz)] I F (MQi D E A h ad (fun z I1 F1 => match stepS (F9 47) (I9 48) sz pz stk d out cl bg cs with | none => 0 = z ∧ I = I1 ∧ F = F1 | some q => 1 = z ∧ RepS I9 F9 q.1 q.2.1 q.2.2.1 q.2.2.2.1 q.2.2.2.2.1 q.2.2.2.2.2.1 q.2.2.2.2.2.2 I1 F1)) := by
  refine m_startE (by decide) rfl (Nat.le_of_ble_eq_true rfl) ?_
  intro p e R s m args below meth c ls Q hR hQ hC hml hr hlk hM hS hE hl
  have hx := hC.1
  have hb := hC.2.1
  have hown := hC.2.2.1
  have hts := hC.2.2.2.1
  have hl : lv_has ls 2 [(0, .ref h), (1, .int (iI sz))] := hl
  obtain ⟨rfl, tc, dd, ww, rfl, hstk, hout⟩ := hRep
  obtain ⟨i48, a47⟩ := id gl0
  obtain ⟨hpz, hsl, hd, hol, hcl, hbg⟩ := hok
  have hF := tF_bd (F9 47) hpz.2
  have hT := tT_bd (F9 47) hpz.2
  have h49 : 0 ≤ tT (F9 47) (I9 48) pz ∧ tT (F9 47) (I9 48) pz ≤ (I9 48) := by omega
  have h54 : 0 ≤ (stk.length : Int) ∧ (stk.length : Int) ≤ 500 := by omega
  have h59 : 0 ≤ (out.length : Int) ∧ (out.length : Int) < 300 := by omega
  have h55 : 0 ≤ d ∧ d ≤ 8 := hd
  have r50 := tK_bd (F9 47) (I9 48) pz
  have r52 := tV_bd2 i48.2 a47 hpz
  refine lv_iload_n hx hb dX2_steps_0 rfl (lv_at hl 1 rfl) ?_
  refine r_sipush hx hb dX2_steps_1 (by decide) ?_
  refine r_icmp_lt (tgt := 19) hx hb dX2_steps_4 (by decide) (by omega) (by decide) (fun c1 => ?_) (fun c1 => ?_)
  · refine lv_iload_n hx hb dX2_steps_19 rfl (lv_at hl 1 rfl) ?_
    refine r_bipush hx hb dX2_steps_20 (by decide) ?_
    refine r_icmp_lt (tgt := 49) hx hb dX2_steps_22 (by decide) (by omega) (by decide) (fun c2 => ?_) (fun c2 => ?_)
    · refine lv_iload_n hx hb dX2_steps_49 rfl (lv_at hl 1 rfl) ?_
      rcases (show ((sz) < 0 ∨ 12 < (sz)) ∨ (sz) = 0 ∨ (sz) = 1 ∨ (sz) = 2 ∨ (sz) = 3 ∨ (sz) = 4 ∨ (sz) = 5 ∨ (sz) = 6 ∨ (sz) = 7 ∨ (sz) = 8 ∨ (sz) = 9 ∨ (sz) = 10 ∨ (sz) = 11 ∨ (sz) = 12 by omega) with hsw | rfl | rfl | rfl | rfl | rfl | rfl | rfl | rfl | rfl | rfl | rfl | rfl | rfl
      · refine lv_tableOut (tgt := 232) hx hb dX2_steps_50 (by rw [iI_toInt (by omega)]; exact hsw) (by decide) ?_
        have hx13 : 12 < sz ∧ sz < 100 := by omega
        refine lv_aload_n hx hb dX2_steps_232 rfl (lv_at hl 0 rfl) ?_
        refine mg_61 hC hM dX2_steps_233 ?_
        refine lv_aload_n hx hb dX2_steps_236 rfl (lv_at hl 0 rfl) ?_
        refine mg_56 (v := cl) hC hM rfl dX2_steps_237 ?_
        refine lv_aload_n hx hb dX2_steps_240 rfl (lv_at hl 0 rfl) ?_
        refine mg_59 (v := (out.length : Int)) hC hM rfl dX2_steps_241 ?_
        refine ms_61 (v := (out.length : Int)) hC hM hS (by omega) dX2_steps_244 (fun H locs hM hS => ?_)
        refine r_iconst hx hb dX2_steps_245 ?_
        have es : stepS (F9 47) (I9 48) sz pz stk d out cl bg cs = some (pz, stk, d, out, cl, bg, updZ cs cl (out.length : Int)) := by rw [stepS_X (h := hx13)]
        have eI : mI I9 (F9 47) pz (stk.length : Int) d cl (out.length : Int) = mI I9 (F9 47) (pz) ((stk : List Int).length : Int) (d) (cl) ((out : List (Int × Int)).length : Int) := by
          funext i
          by_cases g49 : i = 49
          · subst g49; simp [va_up, mI] <;> omega
          by_cases g50 : i = 50
          · subst g50; simp [va_up, mI] <;> omega
          by_cases g51 : i = 51
          · subst g51; simp [va_up, mI] <;> omega
          by_cases g52 : i = 52
          · subst g52; simp [va_up, mI] <;> omega
          by_cases g54 : i = 54
          · subst g54; simp [va_up, mI] <;> omega
          by_cases g55 : i = 55
          · subst g55; simp [va_up, mI] <;> omega
          by_cases g56 : i = 56
          · subst g56; simp [va_up, mI] <;> omega
          by_cases g59 : i = 59
          · subst g59; simp [va_up, mI] <;> omega
          simp [va_up, mI, g49, g50, g51, g52, g54, g55, g56, g59]
        exact m_zret hC hQ hr hlk hM hS (by decide) dX2_steps_246 (by rw [es]; exact ⟨rfl, eI, tc, dd, ww, (show upF (mF F9 tc dd ww bg cs) 61 cl (out.length : Int) = mF F9 tc dd ww bg (updZ cs cl (out.length : Int)) from by rw [upF_mF61]), hstk, hout⟩)
      · refine lv_tableIn (tgt := 116) (off := 66) hx hb dX2_steps_50 (by decide) (by decide) (by decide) (by decide) ?_
        refine lv_aload_n hx hb dX2_steps_116 rfl (lv_at hl 0 rfl) ?_
        refine m_calli (m_runE (n := 0) (rest := []) (as := []) hC hml (met_clauses l adK adV st D E A h ad (mI I9 (F9 47) pz (stk.length : Int) d cl (out.length : Int)) (mF F9 tc dd ww bg cs) hbg h49 h54 h59 h55 r50 r52 gl0) q1425 q1427 qs54 q73 q1428 (by decide +kernel) ⟨rfl, rfl⟩ hR (by decide) ⟨Nat.zero_le _, Nat.zero_le _⟩ hM hE hS rfl hl.1 rfl (Nat.le_of_ble_eq_true rfl) dX2_steps_117) hS (fun z3 I4 F5 H locs hp6 hM hS => ?_)
        rcases hp6 with ⟨hc, rfl, rfl, rfl⟩ | ⟨hc0, hc, rfl, rfl, rfl⟩ | ⟨hc0, hc, rfl, rfl, rfl⟩
        · refine W.eq (g2 := F0 m 120 ls [.int (iI 1)]) rfl ?_
          have hc : tK (F9 47) (I9 48) pz = 0 := hc
          have es : stepS (F9 47) (I9 48) 0 pz stk d out cl bg cs = some (pz, stk, d, out, cl, bg, cs) := by rw [stepS_0, if_pos hc]
          have eI : mI I9 (F9 47) pz (stk.length : Int) d cl (out.length : Int) = mI I9 (F9 47) (pz) ((stk : List Int).length : Int) (d) (cl) ((out : List (Int × Int)).length : Int) := by
            funext i
            by_cases g49 : i = 49
            · subst g49; simp [va_up, mI] <;> omega
            by_cases g50 : i = 50
            · subst g50; simp [va_up, mI] <;> omega
            by_cases g51 : i = 51
            · subst g51; simp [va_up, mI] <;> omega
            by_cases g52 : i = 52
            · subst g52; simp [va_up, mI] <;> omega
            by_cases g54 : i = 54
            · subst g54; simp [va_up, mI] <;> omega
            by_cases g55 : i = 55
            · subst g55; simp [va_up, mI] <;> omega
            by_cases g56 : i = 56
            · subst g56; simp [va_up, mI] <;> omega
            by_cases g59 : i = 59
            · subst g59; simp [va_up, mI] <;> omega
            simp [va_up, mI, g49, g50, g51, g52, g54, g55, g56, g59]
          exact m_zret hC hQ hr hlk hM hS (by decide) dX2_steps_120 (by rw [es]; exact ⟨rfl, eI, tc, dd, ww, rfl, hstk, hout⟩)
        · refine W.eq (g2 := F0 m 120 ls [.int (iI 1)]) rfl ?_
          have hc : tK (F9 47) (I9 48) pz = 2 ∧ (0 ≤ tV (F9 47) (I9 48) pz ∧ tV (F9 47) (I9 48) pz ≤ 1) ∧ bg (tV (F9 47) (I9 48) pz) = -1 := hc
          have hc0 : ¬ tK (F9 47) (I9 48) pz = 0 := hc0
          have es : stepS (F9 47) (I9 48) 0 pz stk d out cl bg cs = some (tT (F9 47) (I9 48) pz, 6 :: 159 :: 13 :: 0 :: stk, d, out, tV (F9 47) (I9 48) pz, updZ bg (tV (F9 47) (I9 48) pz) (out.length : Int), cs) := by rw [stepS_0, if_neg hc0, if_pos hc]
          have eI : va_up (va_up (va_up (va_up (va_up (va_up (va_up (va_up (va_up (mI I9 (F9 47) pz (stk.length : Int) d cl (out.length : Int)) 56 (tV (F9 47) (I9 48) pz)) 54 ((stk.length : Int) + 1)) 54 (((stk.length : Int) + 1) + 1)) 54 ((((stk.length : Int) + 1) + 1) + 1)) 54 (((((stk.length : Int) + 1) + 1) + 1) + 1)) 49 (tT (F9 47) (I9 48) (tT (F9 47) (I9 48) pz))) 50 (tK (F9 47) (I9 48) (tT (F9 47) (I9 48) pz))) 51 (tF (F9 47) (I9 48) (tT (F9 47) (I9 48) pz))) 52 (tV (F9 47) (I9 48) (tT (F9 47) (I9 48) pz)) = mI I9 (F9 47) (tT (F9 47) (I9 48) pz) ((6 :: 159 :: 13 :: 0 :: stk : List Int).length : Int) (d) (tV (F9 47) (I9 48) pz) ((out : List (Int × Int)).length : Int) := by
            funext i
            by_cases g49 : i = 49
            · subst g49; simp [va_up, mI] <;> omega
            by_cases g50 : i = 50
            · subst g50; simp [va_up, mI] <;> omega
            by_cases g51 : i = 51
            · subst g51; simp [va_up, mI] <;> omega
            by_cases g52 : i = 52
            · subst g52; simp [va_up, mI] <;> omega
            by_cases g54 : i = 54
            · subst g54; simp [va_up, mI] <;> omega
            by_cases g55 : i = 55
            · subst g55; simp [va_up, mI] <;> omega
            by_cases g56 : i = 56
            · subst g56; simp [va_up, mI] <;> omega
            by_cases g59 : i = 59
            · subst g59; simp [va_up, mI] <;> omega
            simp [va_up, mI, g49, g50, g51, g52, g54, g55, g56, g59]
          exact m_zret hC hQ hr hlk hM hS (by decide) dX2_steps_120 (by rw [es]; exact ⟨rfl, eI, updZ (updZ (updZ (updZ tc (stk.length : Int) 0) ((stk.length : Int) + 1) 13) (((stk.length : Int) + 1) + 1) 159) ((((stk.length : Int) + 1) + 1) + 1) 6, dd, ww, (show upF (upF (upF (upF (upF (mF F9 tc dd ww bg cs) 60 (tV (F9 47) (I9 48) pz) (out.length : Int)) 53 (stk.length : Int) 0) 53 ((stk.length : Int) + 1) 13) 53 (((stk.length : Int) + 1) + 1) 159) 53 ((((stk.length : Int) + 1) + 1) + 1) 6 = mF F9 (updZ (updZ (updZ (updZ tc (stk.length : Int) 0) ((stk.length : Int) + 1) 13) (((stk.length : Int) + 1) + 1) 159) ((((stk.length : Int) + 1) + 1) + 1) 6) dd ww (updZ bg (tV (F9 47) (I9 48) pz) (out.length : Int)) cs from by rw [upF_mF60, upF_mF53, upF_mF53, upF_mF53, upF_mF53]), (stkIs_push 6 (by first | rfl | (simp only [List.length_cons]; omega)) (stkIs_push 159 (by first | rfl | (simp only [List.length_cons]; omega)) (stkIs_push 13 (by first | rfl | (simp only [List.length_cons]; omega)) (stkIs_push 0 (by first | rfl | (simp only [List.length_cons]; omega)) hstk)))), hout⟩)
        · refine W.eq (g2 := F0 m 120 ls [.int (iI 0)]) rfl ?_
          have hc : ¬ (tK (F9 47) (I9 48) pz = 2 ∧ (0 ≤ tV (F9 47) (I9 48) pz ∧ tV (F9 47) (I9 48) pz ≤ 1) ∧ bg (tV (F9 47) (I9 48) pz) = -1) := hc
          have hc0 : ¬ tK (F9 47) (I9 48) pz = 0 := hc0
          have es : stepS (F9 47) (I9 48) 0 pz stk d out cl bg cs = none := by rw [stepS_0, if_neg hc0, if_neg hc]
          exact m_zret hC hQ hr hlk hM hS (by decide) dX2_steps_120 (by rw [es]; exact ⟨rfl, rfl, rfl⟩)
      · refine lv_tableIn (tgt := 121) (off := 71) hx hb dX2_steps_50 (by decide) (by decide) (by decide) (by decide) ?_
        refine lv_aload_n hx hb dX2_steps_121 rfl (lv_at hl 0 rfl) ?_
        refine r_iconst hx hb dX2_steps_122 ?_
        refine r_iconst hx hb dX2_steps_123 ?_
        refine m_calli (kX2_both (rest := []) (as := [.int (iI 2), .int (iI 3)]) hC hml (met_both l D E A h ad (mI I9 (F9 47) pz (stk.length : Int) d cl (out.length : Int)) (mF F9 tc dd ww bg cs) 2 3 (show 0 ≤ (stk.length : Int) ∧ (stk.length : Int) ≤ 500 by omega)) ⟨rfl, rfl⟩ hR (by decide) hM rfl hl.1 rfl (Nat.le_of_ble_eq_true rfl) dX2_steps_124) hS (fun z7 I8 F9 H locs hp10 hM hS => ?_)
        obtain ⟨rfl, rfl, rfl⟩ := hp10
        have es : stepS (F9 47) (I9 48) 1 pz stk d out cl bg cs = some (pz, 3 :: 2 :: stk, d, out, cl, bg, cs) := by rw [stepS_1]
        have eI : va_up (va_up (mI I9 (F9 47) pz (stk.length : Int) d cl (out.length : Int)) 54 ((stk.length : Int) + 1)) 54 (((stk.length : Int) + 1) + 1) = mI I9 (F9 47) (pz) ((3 :: 2 :: stk : List Int).length : Int) (d) (cl) ((out : List (Int × Int)).length : Int) := by
          funext i
          by_cases g49 : i = 49
          · subst g49; simp [va_up, mI] <;> omega
          by_cases g50 : i = 50
          · subst g50; simp [va_up, mI] <;> omega
          by_cases g51 : i = 51
          · subst g51; simp [va_up, mI] <;> omega
          by_cases g52 : i = 52
          · subst g52; simp [va_up, mI] <;> omega
          by_cases g54 : i = 54
          · subst g54; simp [va_up, mI] <;> omega
          by_cases g55 : i = 55
          · subst g55; simp [va_up, mI] <;> omega
          by_cases g56 : i = 56
          · subst g56; simp [va_up, mI] <;> omega
          by_cases g59 : i = 59
          · subst g59; simp [va_up, mI] <;> omega
          simp [va_up, mI, g49, g50, g51, g52, g54, g55, g56, g59]
        exact m_zret hC hQ hr hlk hM hS (by decide) dX2_steps_127 (by rw [es]; exact ⟨rfl, eI, updZ (updZ tc (stk.length : Int) 2) ((stk.length : Int) + 1) 3, dd, ww, (show upF (upF (mF F9 tc dd ww bg cs) 53 (stk.length : Int) 2) 53 ((stk.length : Int) + 1) 3 = mF F9 (updZ (updZ tc (stk.length : Int) 2) ((stk.length : Int) + 1) 3) dd ww bg cs from by rw [upF_mF53, upF_mF53]), (stkIs_push 3 (by first | rfl | (simp only [List.length_cons]; omega)) (stkIs_push 2 (by first | rfl | (simp only [List.length_cons]; omega)) hstk)), hout⟩)
      · refine lv_tableIn (tgt := 128) (off := 78) hx hb dX2_steps_50 (by decide) (by decide) (by decide) (by decide) ?_
        refine lv_aload_n hx hb dX2_steps_128 rfl (lv_at hl 0 rfl) ?_
        refine r_bipush hx hb dX2_steps_129 (by decide) ?_
        refine r_iconst hx hb dX2_steps_131 ?_
        refine r_bipush hx hb dX2_steps_132 (by decide) ?_
        refine r_iconst hx hb dX2_steps_134 ?_
        refine r_iconst hx hb dX2_steps_135 ?_
        refine r_iconst hx hb dX2_steps_136 ?_
        refine m_calli (m_runE (n := 6) (rest := []) (as := [.int (iI 43), .int (iI 2), .int (iI 45), .int (iI 3), .int (iI 2), .int (iI 3)]) hC hml (met_more l adK adV st D E A h ad (mI I9 (F9 47) pz (stk.length : Int) d cl (out.length : Int)) (mF F9 tc dd ww bg cs) 43 2 45 3 2 3 (by decide) (by decide) (by decide) h49 h54 h59 h55 r50 r52 gl0) q1433 q1435 qs56 q73 q1436 (by decide +kernel) ⟨rfl, rfl⟩ hR (by decide) ⟨Nat.zero_le _, Nat.zero_le _⟩ hM hE hS rfl hl.1 rfl (Nat.le_of_ble_eq_true rfl) dX2_steps_137) hS (fun z11 I12 F13 H locs hp14 hM hS => ?_)
        rcases hp14 with ⟨hc, rfl, rfl, rfl⟩ | ⟨hc, rfl, rfl, rfl⟩
        · refine W.eq (g2 := F0 m 140 ls [.int (iI 1)]) rfl ?_
          have hc : tK (F9 47) (I9 48) pz = 3 ∧ (tV (F9 47) (I9 48) pz = 43 ∨ tV (F9 47) (I9 48) pz = 45) := hc
          have es : stepS (F9 47) (I9 48) 2 pz stk d out cl bg cs = some (tT (F9 47) (I9 48) pz, 3 :: (1000 + if tV (F9 47) (I9 48) pz = 43 then 2 else 3) :: 2 :: stk, d, out, cl, bg, cs) := by rw [stepS_2, if_pos hc]
          have eI : va_up (va_up (va_up (va_up (va_up (va_up (va_up (mI I9 (F9 47) pz (stk.length : Int) d cl (out.length : Int)) 49 (tT (F9 47) (I9 48) (tT (F9 47) (I9 48) pz))) 50 (tK (F9 47) (I9 48) (tT (F9 47) (I9 48) pz))) 51 (tF (F9 47) (I9 48) (tT (F9 47) (I9 48) pz))) 52 (tV (F9 47) (I9 48) (tT (F9 47) (I9 48) pz))) 54 ((stk.length : Int) + 1)) 54 (((stk.length : Int) + 1) + 1)) 54 ((((stk.length : Int) + 1) + 1) + 1) = mI I9 (F9 47) (tT (F9 47) (I9 48) pz) ((3 :: (1000 + if tV (F9 47) (I9 48) pz = 43 then 2 else 3) :: 2 :: stk : List Int).length : Int) (d) (cl) ((out : List (Int × Int)).length : Int) := by
            funext i
            by_cases g49 : i = 49
            · subst g49; simp [va_up, mI] <;> omega
            by_cases g50 : i = 50
            · subst g50; simp [va_up, mI] <;> omega
            by_cases g51 : i = 51
            · subst g51; simp [va_up, mI] <;> omega
            by_cases g52 : i = 52
            · subst g52; simp [va_up, mI] <;> omega
            by_cases g54 : i = 54
            · subst g54; simp [va_up, mI] <;> omega
            by_cases g55 : i = 55
            · subst g55; simp [va_up, mI] <;> omega
            by_cases g56 : i = 56
            · subst g56; simp [va_up, mI] <;> omega
            by_cases g59 : i = 59
            · subst g59; simp [va_up, mI] <;> omega
            simp [va_up, mI, g49, g50, g51, g52, g54, g55, g56, g59]
          exact m_zret hC hQ hr hlk hM hS (by decide) dX2_steps_140 (by rw [es]; exact ⟨rfl, eI, updZ (updZ (updZ tc (stk.length : Int) 2) ((stk.length : Int) + 1) (1000 + (if tV (F9 47) (I9 48) pz = 43 then 2 else 3))) (((stk.length : Int) + 1) + 1) 3, dd, ww, (show upF (upF (upF (mF F9 tc dd ww bg cs) 53 (stk.length : Int) 2) 53 ((stk.length : Int) + 1) (1000 + (if tV (F9 47) (I9 48) pz = 43 then 2 else 3))) 53 (((stk.length : Int) + 1) + 1) 3 = mF F9 (updZ (updZ (updZ tc (stk.length : Int) 2) ((stk.length : Int) + 1) (1000 + (if tV (F9 47) (I9 48) pz = 43 then 2 else 3))) (((stk.length : Int) + 1) + 1) 3) dd ww bg cs from by rw [upF_mF53, upF_mF53, upF_mF53]), (stkIs_push 3 (by first | rfl | (simp only [List.length_cons]; omega)) (stkIs_push (1000 + if tV (F9 47) (I9 48) pz = 43 then 2 else 3) (by first | rfl | (simp only [List.length_cons]; omega)) (stkIs_push 2 (by first | rfl | (simp only [List.length_cons]; omega)) hstk))), hout⟩)
        · refine W.eq (g2 := F0 m 140 ls [.int (iI 1)]) rfl ?_
          have hc : ¬ (tK (F9 47) (I9 48) pz = 3 ∧ (tV (F9 47) (I9 48) pz = 43 ∨ tV (F9 47) (I9 48) pz = 45)) := hc
          have es : stepS (F9 47) (I9 48) 2 pz stk d out cl bg cs = some (pz, stk, d, out, cl, bg, cs) := by rw [stepS_2, if_neg hc]
          have eI : mI I9 (F9 47) pz (stk.length : Int) d cl (out.length : Int) = mI I9 (F9 47) (pz) ((stk : List Int).length : Int) (d) (cl) ((out : List (Int × Int)).length : Int) := by
            funext i
            by_cases g49 : i = 49
            · subst g49; simp [va_up, mI] <;> omega
            by_cases g50 : i = 50
            · subst g50; simp [va_up, mI] <;> omega
            by_cases g51 : i = 51
            · subst g51; simp [va_up, mI] <;> omega
            by_cases g52 : i = 52
            · subst g52; simp [va_up, mI] <;> omega
            by_cases g54 : i = 54
            · subst g54; simp [va_up, mI] <;> omega
            by_cases g55 : i = 55
            · subst g55; simp [va_up, mI] <;> omega
            by_cases g56 : i = 56
            · subst g56; simp [va_up, mI] <;> omega
            by_cases g59 : i = 59
            · subst g59; simp [va_up, mI] <;> omega
            simp [va_up, mI, g49, g50, g51, g52, g54, g55, g56, g59]
          exact m_zret hC hQ hr hlk hM hS (by decide) dX2_steps_140 (by rw [es]; exact ⟨rfl, eI, tc, dd, ww, rfl, hstk, hout⟩)
      · refine lv_tableIn (tgt := 141) (off := 91) hx hb dX2_steps_50 (by decide) (by decide) (by decide) (by decide) ?_
        refine lv_aload_n hx hb dX2_steps_141 rfl (lv_at hl 0 rfl) ?_
        refine r_iconst hx hb dX2_steps_142 ?_
        refine r_iconst hx hb dX2_steps_143 ?_
        refine m_calli (kX2_both (rest := []) (as := [.int (iI 4), .int (iI 5)]) hC hml (met_both l D E A h ad (mI I9 (F9 47) pz (stk.length : Int) d cl (out.length : Int)) (mF F9 tc dd ww bg cs) 4 5 (show 0 ≤ (stk.length : Int) ∧ (stk.length : Int) ≤ 500 by omega)) ⟨rfl, rfl⟩ hR (by decide) hM rfl hl.1 rfl (Nat.le_of_ble_eq_true rfl) dX2_steps_144) hS (fun z15 I16 F17 H locs hp18 hM hS => ?_)
        obtain ⟨rfl, rfl, rfl⟩ := hp18
        have es : stepS (F9 47) (I9 48) 3 pz stk d out cl bg cs = some (pz, 5 :: 4 :: stk, d, out, cl, bg, cs) := by rw [stepS_3]
        have eI : va_up (va_up (mI I9 (F9 47) pz (stk.length : Int) d cl (out.length : Int)) 54 ((stk.length : Int) + 1)) 54 (((stk.length : Int) + 1) + 1) = mI I9 (F9 47) (pz) ((5 :: 4 :: stk : List Int).length : Int) (d) (cl) ((out : List (Int × Int)).length : Int) := by
          funext i
          by_cases g49 : i = 49
          · subst g49; simp [va_up, mI] <;> omega
          by_cases g50 : i = 50
          · subst g50; simp [va_up, mI] <;> omega
          by_cases g51 : i = 51
          · subst g51; simp [va_up, mI] <;> omega
          by_cases g52 : i = 52
          · subst g52; simp [va_up, mI] <;> omega
          by_cases g54 : i = 54
          · subst g54; simp [va_up, mI] <;> omega
          by_cases g55 : i = 55
          · subst g55; simp [va_up, mI] <;> omega
          by_cases g56 : i = 56
          · subst g56; simp [va_up, mI] <;> omega
          by_cases g59 : i = 59
          · subst g59; simp [va_up, mI] <;> omega
          simp [va_up, mI, g49, g50, g51, g52, g54, g55, g56, g59]
        exact m_zret hC hQ hr hlk hM hS (by decide) dX2_steps_147 (by rw [es]; exact ⟨rfl, eI, updZ (updZ tc (stk.length : Int) 4) ((stk.length : Int) + 1) 5, dd, ww, (show upF (upF (mF F9 tc dd ww bg cs) 53 (stk.length : Int) 4) 53 ((stk.length : Int) + 1) 5 = mF F9 (updZ (updZ tc (stk.length : Int) 4) ((stk.length : Int) + 1) 5) dd ww bg cs from by rw [upF_mF53, upF_mF53]), (stkIs_push 5 (by first | rfl | (simp only [List.length_cons]; omega)) (stkIs_push 4 (by first | rfl | (simp only [List.length_cons]; omega)) hstk)), hout⟩)
      · refine lv_tableIn (tgt := 148) (off := 98) hx hb dX2_steps_50 (by decide) (by decide) (by decide) (by decide) ?_
        refine lv_aload_n hx hb dX2_steps_148 rfl (lv_at hl 0 rfl) ?_
        refine r_bipush hx hb dX2_steps_149 (by decide) ?_
        refine r_iconst hx hb dX2_steps_151 ?_
        refine r_bipush hx hb dX2_steps_152 (by decide) ?_
        refine r_iconst hx hb dX2_steps_154 ?_
        refine r_iconst hx hb dX2_steps_155 ?_
        refine r_iconst hx hb dX2_steps_156 ?_
        refine m_calli (m_runE (n := 6) (rest := []) (as := [.int (iI 42), .int (iI 4), .int (iI 47), .int (iI 5), .int (iI 4), .int (iI 5)]) hC hml (met_more l adK adV st D E A h ad (mI I9 (F9 47) pz (stk.length : Int) d cl (out.length : Int)) (mF F9 tc dd ww bg cs) 42 4 47 5 4 5 (by decide) (by decide) (by decide) h49 h54 h59 h55 r50 r52 gl0) q1433 q1435 qs56 q73 q1436 (by decide +kernel) ⟨rfl, rfl⟩ hR (by decide) ⟨Nat.zero_le _, Nat.zero_le _⟩ hM hE hS rfl hl.1 rfl (Nat.le_of_ble_eq_true rfl) dX2_steps_157) hS (fun z19 I20 F21 H locs hp22 hM hS => ?_)
        rcases hp22 with ⟨hc, rfl, rfl, rfl⟩ | ⟨hc, rfl, rfl, rfl⟩
        · refine W.eq (g2 := F0 m 160 ls [.int (iI 1)]) rfl ?_
          have hc : tK (F9 47) (I9 48) pz = 3 ∧ (tV (F9 47) (I9 48) pz = 42 ∨ tV (F9 47) (I9 48) pz = 47) := hc
          have es : stepS (F9 47) (I9 48) 4 pz stk d out cl bg cs = some (tT (F9 47) (I9 48) pz, 5 :: (1000 + if tV (F9 47) (I9 48) pz = 42 then 4 else 5) :: 4 :: stk, d, out, cl, bg, cs) := by rw [stepS_4, if_pos hc]
          have eI : va_up (va_up (va_up (va_up (va_up (va_up (va_up (mI I9 (F9 47) pz (stk.length : Int) d cl (out.length : Int)) 49 (tT (F9 47) (I9 48) (tT (F9 47) (I9 48) pz))) 50 (tK (F9 47) (I9 48) (tT (F9 47) (I9 48) pz))) 51 (tF (F9 47) (I9 48) (tT (F9 47) (I9 48) pz))) 52 (tV (F9 47) (I9 48) (tT (F9 47) (I9 48) pz))) 54 ((stk.length : Int) + 1)) 54 (((stk.length : Int) + 1) + 1)) 54 ((((stk.length : Int) + 1) + 1) + 1) = mI I9 (F9 47) (tT (F9 47) (I9 48) pz) ((5 :: (1000 + if tV (F9 47) (I9 48) pz = 42 then 4 else 5) :: 4 :: stk : List Int).length : Int) (d) (cl) ((out : List (Int × Int)).length : Int) := by
            funext i
            by_cases g49 : i = 49
            · subst g49; simp [va_up, mI] <;> omega
            by_cases g50 : i = 50
            · subst g50; simp [va_up, mI] <;> omega
            by_cases g51 : i = 51
            · subst g51; simp [va_up, mI] <;> omega
            by_cases g52 : i = 52
            · subst g52; simp [va_up, mI] <;> omega
            by_cases g54 : i = 54
            · subst g54; simp [va_up, mI] <;> omega
            by_cases g55 : i = 55
            · subst g55; simp [va_up, mI] <;> omega
            by_cases g56 : i = 56
            · subst g56; simp [va_up, mI] <;> omega
            by_cases g59 : i = 59
            · subst g59; simp [va_up, mI] <;> omega
            simp [va_up, mI, g49, g50, g51, g52, g54, g55, g56, g59]
          exact m_zret hC hQ hr hlk hM hS (by decide) dX2_steps_160 (by rw [es]; exact ⟨rfl, eI, updZ (updZ (updZ tc (stk.length : Int) 4) ((stk.length : Int) + 1) (1000 + (if tV (F9 47) (I9 48) pz = 42 then 4 else 5))) (((stk.length : Int) + 1) + 1) 5, dd, ww, (show upF (upF (upF (mF F9 tc dd ww bg cs) 53 (stk.length : Int) 4) 53 ((stk.length : Int) + 1) (1000 + (if tV (F9 47) (I9 48) pz = 42 then 4 else 5))) 53 (((stk.length : Int) + 1) + 1) 5 = mF F9 (updZ (updZ (updZ tc (stk.length : Int) 4) ((stk.length : Int) + 1) (1000 + (if tV (F9 47) (I9 48) pz = 42 then 4 else 5))) (((stk.length : Int) + 1) + 1) 5) dd ww bg cs from by rw [upF_mF53, upF_mF53, upF_mF53]), (stkIs_push 5 (by first | rfl | (simp only [List.length_cons]; omega)) (stkIs_push (1000 + if tV (F9 47) (I9 48) pz = 42 then 4 else 5) (by first | rfl | (simp only [List.length_cons]; omega)) (stkIs_push 4 (by first | rfl | (simp only [List.length_cons]; omega)) hstk))), hout⟩)
        · refine W.eq (g2 := F0 m 160 ls [.int (iI 1)]) rfl ?_
          have hc : ¬ (tK (F9 47) (I9 48) pz = 3 ∧ (tV (F9 47) (I9 48) pz = 42 ∨ tV (F9 47) (I9 48) pz = 47)) := hc
          have es : stepS (F9 47) (I9 48) 4 pz stk d out cl bg cs = some (pz, stk, d, out, cl, bg, cs) := by rw [stepS_4, if_neg hc]
          have eI : mI I9 (F9 47) pz (stk.length : Int) d cl (out.length : Int) = mI I9 (F9 47) (pz) ((stk : List Int).length : Int) (d) (cl) ((out : List (Int × Int)).length : Int) := by
            funext i
            by_cases g49 : i = 49
            · subst g49; simp [va_up, mI] <;> omega
            by_cases g50 : i = 50
            · subst g50; simp [va_up, mI] <;> omega
            by_cases g51 : i = 51
            · subst g51; simp [va_up, mI] <;> omega
            by_cases g52 : i = 52
            · subst g52; simp [va_up, mI] <;> omega
            by_cases g54 : i = 54
            · subst g54; simp [va_up, mI] <;> omega
            by_cases g55 : i = 55
            · subst g55; simp [va_up, mI] <;> omega
            by_cases g56 : i = 56
            · subst g56; simp [va_up, mI] <;> omega
            by_cases g59 : i = 59
            · subst g59; simp [va_up, mI] <;> omega
            simp [va_up, mI, g49, g50, g51, g52, g54, g55, g56, g59]
          exact m_zret hC hQ hr hlk hM hS (by decide) dX2_steps_160 (by rw [es]; exact ⟨rfl, eI, tc, dd, ww, rfl, hstk, hout⟩)
      · refine lv_tableIn (tgt := 161) (off := 111) hx hb dX2_steps_50 (by decide) (by decide) (by decide) (by decide) ?_
        refine lv_aload_n hx hb dX2_steps_161 rfl (lv_at hl 0 rfl) ?_
        refine m_calli (m_runE (n := 0) (rest := []) (as := []) hC hml (met_factor l adK adV st D E A h ad (mI I9 (F9 47) pz (stk.length : Int) d cl (out.length : Int)) (mF F9 tc dd ww bg cs) h49 h54 h59 h55 r50 r52 gl0) q1437 q1439 qs57 q73 q1440 (by decide +kernel) ⟨rfl, rfl⟩ hR (by decide) ⟨Nat.zero_le _, Nat.zero_le _⟩ hM hE hS rfl hl.1 rfl (Nat.le_of_ble_eq_true rfl) dX2_steps_162) hS (fun z23 I24 F25 H locs hp26 hM hS => ?_)
        rcases hp26 with ⟨hc, hc2, rfl, rfl, rfl⟩ | ⟨hc, rfl, rfl, rfl⟩ | ⟨hc, rfl, rfl, rfl⟩ | ⟨hc, hc2, hc3, rfl, rfl, rfl⟩
        · refine W.eq (g2 := F0 m 165 ls [.int (iI 1)]) rfl ?_
          have hc : tK (F9 47) (I9 48) pz = 1 := hc
          have hc2 : tV (F9 47) (I9 48) pz ≤ 9999 := hc2
          have es : stepS (F9 47) (I9 48) 5 pz stk d out cl bg cs = some (tT (F9 47) (I9 48) pz, stk, d, out ++ [(0, tV (F9 47) (I9 48) pz)], cl, bg, cs) := by rw [stepS_5, if_pos hc, if_neg (Int.not_lt.mpr hc2)]
          have eI : va_up (va_up (va_up (va_up (va_up (mI I9 (F9 47) pz (stk.length : Int) d cl (out.length : Int)) 59 ((out.length : Int) + 1)) 49 (tT (F9 47) (I9 48) (tT (F9 47) (I9 48) pz))) 50 (tK (F9 47) (I9 48) (tT (F9 47) (I9 48) pz))) 51 (tF (F9 47) (I9 48) (tT (F9 47) (I9 48) pz))) 52 (tV (F9 47) (I9 48) (tT (F9 47) (I9 48) pz)) = mI I9 (F9 47) (tT (F9 47) (I9 48) pz) ((stk : List Int).length : Int) (d) (cl) ((out ++ [(0, tV (F9 47) (I9 48) pz)] : List (Int × Int)).length : Int) := by
            funext i
            by_cases g49 : i = 49
            · subst g49; simp [va_up, mI] <;> omega
            by_cases g50 : i = 50
            · subst g50; simp [va_up, mI] <;> omega
            by_cases g51 : i = 51
            · subst g51; simp [va_up, mI] <;> omega
            by_cases g52 : i = 52
            · subst g52; simp [va_up, mI] <;> omega
            by_cases g54 : i = 54
            · subst g54; simp [va_up, mI] <;> omega
            by_cases g55 : i = 55
            · subst g55; simp [va_up, mI] <;> omega
            by_cases g56 : i = 56
            · subst g56; simp [va_up, mI] <;> omega
            by_cases g59 : i = 59
            · subst g59; simp [va_up, mI] <;> omega
            simp [va_up, mI, g49, g50, g51, g52, g54, g55, g56, g59]
          exact m_zret hC hQ hr hlk hM hS (by decide) dX2_steps_165 (by rw [es]; exact ⟨rfl, eI, tc, updZ dd (out.length : Int) 0, updZ ww (out.length : Int) (tV (F9 47) (I9 48) pz), (show upF (upF (mF F9 tc dd ww bg cs) 57 (out.length : Int) 0) 58 (out.length : Int) (tV (F9 47) (I9 48) pz) = mF F9 tc (updZ dd (out.length : Int) 0) (updZ ww (out.length : Int) (tV (F9 47) (I9 48) pz)) bg cs from by rw [upF_mF57, upF_mF58]), hstk, (outIs_add _ _ hout)⟩)
        · refine W.eq (g2 := F0 m 165 ls [.int (iI 1)]) rfl ?_
          have hc : tK (F9 47) (I9 48) pz = 2 ∧ (2 ≤ tV (F9 47) (I9 48) pz ∧ tV (F9 47) (I9 48) pz ≤ 8) := hc
          have es : stepS (F9 47) (I9 48) 5 pz stk d out cl bg cs = some (tT (F9 47) (I9 48) pz, stk, d, out ++ [(1, tV (F9 47) (I9 48) pz - 2)], cl, bg, cs) := by rw [stepS_5, if_neg (show ¬ tK (F9 47) (I9 48) pz = 1 by omega), if_pos hc]
          have eI : va_up (va_up (va_up (va_up (va_up (mI I9 (F9 47) pz (stk.length : Int) d cl (out.length : Int)) 59 ((out.length : Int) + 1)) 49 (tT (F9 47) (I9 48) (tT (F9 47) (I9 48) pz))) 50 (tK (F9 47) (I9 48) (tT (F9 47) (I9 48) pz))) 51 (tF (F9 47) (I9 48) (tT (F9 47) (I9 48) pz))) 52 (tV (F9 47) (I9 48) (tT (F9 47) (I9 48) pz)) = mI I9 (F9 47) (tT (F9 47) (I9 48) pz) ((stk : List Int).length : Int) (d) (cl) ((out ++ [(1, tV (F9 47) (I9 48) pz - 2)] : List (Int × Int)).length : Int) := by
            funext i
            by_cases g49 : i = 49
            · subst g49; simp [va_up, mI] <;> omega
            by_cases g50 : i = 50
            · subst g50; simp [va_up, mI] <;> omega
            by_cases g51 : i = 51
            · subst g51; simp [va_up, mI] <;> omega
            by_cases g52 : i = 52
            · subst g52; simp [va_up, mI] <;> omega
            by_cases g54 : i = 54
            · subst g54; simp [va_up, mI] <;> omega
            by_cases g55 : i = 55
            · subst g55; simp [va_up, mI] <;> omega
            by_cases g56 : i = 56
            · subst g56; simp [va_up, mI] <;> omega
            by_cases g59 : i = 59
            · subst g59; simp [va_up, mI] <;> omega
            simp [va_up, mI, g49, g50, g51, g52, g54, g55, g56, g59]
          exact m_zret hC hQ hr hlk hM hS (by decide) dX2_steps_165 (by rw [es]; exact ⟨rfl, eI, tc, updZ dd (out.length : Int) 1, updZ ww (out.length : Int) ((tV (F9 47) (I9 48) pz) - 2), (show upF (upF (mF F9 tc dd ww bg cs) 57 (out.length : Int) 1) 58 (out.length : Int) ((tV (F9 47) (I9 48) pz) - 2) = mF F9 tc (updZ dd (out.length : Int) 1) (updZ ww (out.length : Int) ((tV (F9 47) (I9 48) pz) - 2)) bg cs from by rw [upF_mF57, upF_mF58]), hstk, (outIs_add _ _ hout)⟩)
        · refine W.eq (g2 := F0 m 165 ls [.int (iI 1)]) rfl ?_
          have hc : tK (F9 47) (I9 48) pz = 3 ∧ tV (F9 47) (I9 48) pz = 40 ∧ d ≠ 8 := hc
          have es : stepS (F9 47) (I9 48) 5 pz stk d out cl bg cs = some (tT (F9 47) (I9 48) pz, 1 :: 141 :: 12 :: stk, d + 1, out, cl, bg, cs) := by rw [stepS_5, if_neg (show ¬ tK (F9 47) (I9 48) pz = 1 by omega), if_neg (show ¬ (tK (F9 47) (I9 48) pz = 2 ∧ (2 ≤ tV (F9 47) (I9 48) pz ∧ tV (F9 47) (I9 48) pz ≤ 8)) by omega), if_pos hc]
          have eI : va_up (va_up (va_up (va_up (va_up (va_up (va_up (va_up (mI I9 (F9 47) pz (stk.length : Int) d cl (out.length : Int)) 55 (d + 1)) 54 ((stk.length : Int) + 1)) 54 (((stk.length : Int) + 1) + 1)) 54 ((((stk.length : Int) + 1) + 1) + 1)) 49 (tT (F9 47) (I9 48) (tT (F9 47) (I9 48) pz))) 50 (tK (F9 47) (I9 48) (tT (F9 47) (I9 48) pz))) 51 (tF (F9 47) (I9 48) (tT (F9 47) (I9 48) pz))) 52 (tV (F9 47) (I9 48) (tT (F9 47) (I9 48) pz)) = mI I9 (F9 47) (tT (F9 47) (I9 48) pz) ((1 :: 141 :: 12 :: stk : List Int).length : Int) (d + 1) (cl) ((out : List (Int × Int)).length : Int) := by
            funext i
            by_cases g49 : i = 49
            · subst g49; simp [va_up, mI] <;> omega
            by_cases g50 : i = 50
            · subst g50; simp [va_up, mI] <;> omega
            by_cases g51 : i = 51
            · subst g51; simp [va_up, mI] <;> omega
            by_cases g52 : i = 52
            · subst g52; simp [va_up, mI] <;> omega
            by_cases g54 : i = 54
            · subst g54; simp [va_up, mI] <;> omega
            by_cases g55 : i = 55
            · subst g55; simp [va_up, mI] <;> omega
            by_cases g56 : i = 56
            · subst g56; simp [va_up, mI] <;> omega
            by_cases g59 : i = 59
            · subst g59; simp [va_up, mI] <;> omega
            simp [va_up, mI, g49, g50, g51, g52, g54, g55, g56, g59]
          exact m_zret hC hQ hr hlk hM hS (by decide) dX2_steps_165 (by rw [es]; exact ⟨rfl, eI, updZ (updZ (updZ tc (stk.length : Int) 12) ((stk.length : Int) + 1) 141) (((stk.length : Int) + 1) + 1) 1, dd, ww, (show upF (upF (upF (mF F9 tc dd ww bg cs) 53 (stk.length : Int) 12) 53 ((stk.length : Int) + 1) 141) 53 (((stk.length : Int) + 1) + 1) 1 = mF F9 (updZ (updZ (updZ tc (stk.length : Int) 12) ((stk.length : Int) + 1) 141) (((stk.length : Int) + 1) + 1) 1) dd ww bg cs from by rw [upF_mF53, upF_mF53, upF_mF53]), (stkIs_push 1 (by first | rfl | (simp only [List.length_cons]; omega)) (stkIs_push 141 (by first | rfl | (simp only [List.length_cons]; omega)) (stkIs_push 12 (by first | rfl | (simp only [List.length_cons]; omega)) hstk))), hout⟩)
        · refine W.eq (g2 := F0 m 165 ls [.int (iI 0)]) rfl ?_
          have hc : ¬ (tK (F9 47) (I9 48) pz = 1 ∧ tV (F9 47) (I9 48) pz ≤ 9999) := hc
          have hc2 : ¬ (tK (F9 47) (I9 48) pz = 2 ∧ (2 ≤ tV (F9 47) (I9 48) pz ∧ tV (F9 47) (I9 48) pz ≤ 8)) := hc2
          have hc3 : ¬ (tK (F9 47) (I9 48) pz = 3 ∧ tV (F9 47) (I9 48) pz = 40 ∧ d ≠ 8) := hc3
          have es : stepS (F9 47) (I9 48) 5 pz stk d out cl bg cs = none := by
            rw [stepS_5]
            by_cases q1 : tK (F9 47) (I9 48) pz = 1
            · rw [if_pos q1, if_pos (by omega)]
            · rw [if_neg q1, if_neg hc2, if_neg hc3]
          exact m_zret hC hQ hr hlk hM hS (by decide) dX2_steps_165 (by rw [es]; exact ⟨rfl, rfl, rfl⟩)
      · refine lv_tableIn (tgt := 166) (off := 116) hx hb dX2_steps_50 (by decide) (by decide) (by decide) (by decide) ?_
        refine lv_aload_n hx hb dX2_steps_166 rfl (lv_at hl 0 rfl) ?_
        refine r_bipush hx hb dX2_steps_167 (by decide) ?_
        refine r_bipush hx hb dX2_steps_169 (by decide) ?_
        refine m_calli (kX2_both (rest := []) (as := [.int (iI 7), .int (iI 8)]) hC hml (met_both l D E A h ad (mI I9 (F9 47) pz (stk.length : Int) d cl (out.length : Int)) (mF F9 tc dd ww bg cs) 7 8 (show 0 ≤ (stk.length : Int) ∧ (stk.length : Int) ≤ 500 by omega)) ⟨rfl, rfl⟩ hR (by decide) hM rfl hl.1 rfl (Nat.le_of_ble_eq_true rfl) dX2_steps_171) hS (fun z27 I28 F29 H locs hp30 hM hS => ?_)
        obtain ⟨rfl, rfl, rfl⟩ := hp30
        have es : stepS (F9 47) (I9 48) 6 pz stk d out cl bg cs = some (pz, 8 :: 7 :: stk, d, out, cl, bg, cs) := by rw [stepS_6]
        have eI : va_up (va_up (mI I9 (F9 47) pz (stk.length : Int) d cl (out.length : Int)) 54 ((stk.length : Int) + 1)) 54 (((stk.length : Int) + 1) + 1) = mI I9 (F9 47) (pz) ((8 :: 7 :: stk : List Int).length : Int) (d) (cl) ((out : List (Int × Int)).length : Int) := by
          funext i
          by_cases g49 : i = 49
          · subst g49; simp [va_up, mI] <;> omega
          by_cases g50 : i = 50
          · subst g50; simp [va_up, mI] <;> omega
          by_cases g51 : i = 51
          · subst g51; simp [va_up, mI] <;> omega
          by_cases g52 : i = 52
          · subst g52; simp [va_up, mI] <;> omega
          by_cases g54 : i = 54
          · subst g54; simp [va_up, mI] <;> omega
          by_cases g55 : i = 55
          · subst g55; simp [va_up, mI] <;> omega
          by_cases g56 : i = 56
          · subst g56; simp [va_up, mI] <;> omega
          by_cases g59 : i = 59
          · subst g59; simp [va_up, mI] <;> omega
          simp [va_up, mI, g49, g50, g51, g52, g54, g55, g56, g59]
        exact m_zret hC hQ hr hlk hM hS (by decide) dX2_steps_174 (by rw [es]; exact ⟨rfl, eI, updZ (updZ tc (stk.length : Int) 7) ((stk.length : Int) + 1) 8, dd, ww, (show upF (upF (mF F9 tc dd ww bg cs) 53 (stk.length : Int) 7) 53 ((stk.length : Int) + 1) 8 = mF F9 (updZ (updZ tc (stk.length : Int) 7) ((stk.length : Int) + 1) 8) dd ww bg cs from by rw [upF_mF53, upF_mF53]), (stkIs_push 8 (by first | rfl | (simp only [List.length_cons]; omega)) (stkIs_push 7 (by first | rfl | (simp only [List.length_cons]; omega)) hstk)), hout⟩)
      · refine lv_tableIn (tgt := 175) (off := 125) hx hb dX2_steps_50 (by decide) (by decide) (by decide) (by decide) ?_
        refine lv_aload_n hx hb dX2_steps_175 rfl (lv_at hl 0 rfl) ?_
        refine r_bipush hx hb dX2_steps_176 (by decide) ?_
        refine r_bipush hx hb dX2_steps_178 (by decide) ?_
        refine r_bipush hx hb dX2_steps_180 (by decide) ?_
        refine r_bipush hx hb dX2_steps_182 (by decide) ?_
        refine m_calli (m_runE (n := 4) (rest := []) (as := [.int (iI 9), .int (iI 10), .int (iI 7), .int (iI 8)]) hC hml (met_moreWords l adK adV st D E A h ad (mI I9 (F9 47) pz (stk.length : Int) d cl (out.length : Int)) (mF F9 tc dd ww bg cs) 9 10 7 8 (by decide) h49 h54 h59 h55 r50 r52 gl0) q1445 q1447 qs59 q73 q1448 (by decide +kernel) ⟨rfl, rfl⟩ hR (by decide) ⟨Nat.zero_le _, Nat.zero_le _⟩ hM hE hS rfl hl.1 rfl (Nat.le_of_ble_eq_true rfl) dX2_steps_184) hS (fun z31 I32 F33 H locs hp34 hM hS => ?_)
        rcases hp34 with ⟨hc, rfl, rfl, rfl⟩ | ⟨hc, rfl, rfl, rfl⟩
        · refine W.eq (g2 := F0 m 187 ls [.int (iI 1)]) rfl ?_
          have hc : tK (F9 47) (I9 48) pz = 2 ∧ tV (F9 47) (I9 48) pz = 9 := hc
          have es : stepS (F9 47) (I9 48) 7 pz stk d out cl bg cs = some (tT (F9 47) (I9 48) pz, 8 :: 1010 :: 7 :: stk, d, out, cl, bg, cs) := by rw [stepS_7, if_pos hc]
          have eI : va_up (va_up (va_up (va_up (va_up (va_up (va_up (mI I9 (F9 47) pz (stk.length : Int) d cl (out.length : Int)) 49 (tT (F9 47) (I9 48) (tT (F9 47) (I9 48) pz))) 50 (tK (F9 47) (I9 48) (tT (F9 47) (I9 48) pz))) 51 (tF (F9 47) (I9 48) (tT (F9 47) (I9 48) pz))) 52 (tV (F9 47) (I9 48) (tT (F9 47) (I9 48) pz))) 54 ((stk.length : Int) + 1)) 54 (((stk.length : Int) + 1) + 1)) 54 ((((stk.length : Int) + 1) + 1) + 1) = mI I9 (F9 47) (tT (F9 47) (I9 48) pz) ((8 :: 1010 :: 7 :: stk : List Int).length : Int) (d) (cl) ((out : List (Int × Int)).length : Int) := by
            funext i
            by_cases g49 : i = 49
            · subst g49; simp [va_up, mI] <;> omega
            by_cases g50 : i = 50
            · subst g50; simp [va_up, mI] <;> omega
            by_cases g51 : i = 51
            · subst g51; simp [va_up, mI] <;> omega
            by_cases g52 : i = 52
            · subst g52; simp [va_up, mI] <;> omega
            by_cases g54 : i = 54
            · subst g54; simp [va_up, mI] <;> omega
            by_cases g55 : i = 55
            · subst g55; simp [va_up, mI] <;> omega
            by_cases g56 : i = 56
            · subst g56; simp [va_up, mI] <;> omega
            by_cases g59 : i = 59
            · subst g59; simp [va_up, mI] <;> omega
            simp [va_up, mI, g49, g50, g51, g52, g54, g55, g56, g59]
          exact m_zret hC hQ hr hlk hM hS (by decide) dX2_steps_187 (by rw [es]; exact ⟨rfl, eI, updZ (updZ (updZ tc (stk.length : Int) 7) ((stk.length : Int) + 1) (1000 + 10)) (((stk.length : Int) + 1) + 1) 8, dd, ww, (show upF (upF (upF (mF F9 tc dd ww bg cs) 53 (stk.length : Int) 7) 53 ((stk.length : Int) + 1) (1000 + 10)) 53 (((stk.length : Int) + 1) + 1) 8 = mF F9 (updZ (updZ (updZ tc (stk.length : Int) 7) ((stk.length : Int) + 1) (1000 + 10)) (((stk.length : Int) + 1) + 1) 8) dd ww bg cs from by rw [upF_mF53, upF_mF53, upF_mF53]), (stkIs_push 8 (by first | rfl | (simp only [List.length_cons]; omega)) (stkIs_push 1010 (by first | rfl | (simp only [List.length_cons]; omega)) (stkIs_push 7 (by first | rfl | (simp only [List.length_cons]; omega)) hstk))), hout⟩)
        · refine W.eq (g2 := F0 m 187 ls [.int (iI 1)]) rfl ?_
          have hc : ¬ (tK (F9 47) (I9 48) pz = 2 ∧ tV (F9 47) (I9 48) pz = 9) := hc
          have es : stepS (F9 47) (I9 48) 7 pz stk d out cl bg cs = some (pz, stk, d, out, cl, bg, cs) := by rw [stepS_7, if_neg hc]
          have eI : mI I9 (F9 47) pz (stk.length : Int) d cl (out.length : Int) = mI I9 (F9 47) (pz) ((stk : List Int).length : Int) (d) (cl) ((out : List (Int × Int)).length : Int) := by
            funext i
            by_cases g49 : i = 49
            · subst g49; simp [va_up, mI] <;> omega
            by_cases g50 : i = 50
            · subst g50; simp [va_up, mI] <;> omega
            by_cases g51 : i = 51
            · subst g51; simp [va_up, mI] <;> omega
            by_cases g52 : i = 52
            · subst g52; simp [va_up, mI] <;> omega
            by_cases g54 : i = 54
            · subst g54; simp [va_up, mI] <;> omega
            by_cases g55 : i = 55
            · subst g55; simp [va_up, mI] <;> omega
            by_cases g56 : i = 56
            · subst g56; simp [va_up, mI] <;> omega
            by_cases g59 : i = 59
            · subst g59; simp [va_up, mI] <;> omega
            simp [va_up, mI, g49, g50, g51, g52, g54, g55, g56, g59]
          exact m_zret hC hQ hr hlk hM hS (by decide) dX2_steps_187 (by rw [es]; exact ⟨rfl, eI, tc, dd, ww, rfl, hstk, hout⟩)
      · refine lv_tableIn (tgt := 188) (off := 138) hx hb dX2_steps_50 (by decide) (by decide) (by decide) (by decide) ?_
        refine lv_aload_n hx hb dX2_steps_188 rfl (lv_at hl 0 rfl) ?_
        refine r_bipush hx hb dX2_steps_189 (by decide) ?_
        refine r_bipush hx hb dX2_steps_191 (by decide) ?_
        refine m_calli (kX2_both (rest := []) (as := [.int (iI 9), .int (iI 10)]) hC hml (met_both l D E A h ad (mI I9 (F9 47) pz (stk.length : Int) d cl (out.length : Int)) (mF F9 tc dd ww bg cs) 9 10 (show 0 ≤ (stk.length : Int) ∧ (stk.length : Int) ≤ 500 by omega)) ⟨rfl, rfl⟩ hR (by decide) hM rfl hl.1 rfl (Nat.le_of_ble_eq_true rfl) dX2_steps_193) hS (fun z35 I36 F37 H locs hp38 hM hS => ?_)
        obtain ⟨rfl, rfl, rfl⟩ := hp38
        have es : stepS (F9 47) (I9 48) 8 pz stk d out cl bg cs = some (pz, 10 :: 9 :: stk, d, out, cl, bg, cs) := by rw [stepS_8]
        have eI : va_up (va_up (mI I9 (F9 47) pz (stk.length : Int) d cl (out.length : Int)) 54 ((stk.length : Int) + 1)) 54 (((stk.length : Int) + 1) + 1) = mI I9 (F9 47) (pz) ((10 :: 9 :: stk : List Int).length : Int) (d) (cl) ((out : List (Int × Int)).length : Int) := by
          funext i
          by_cases g49 : i = 49
          · subst g49; simp [va_up, mI] <;> omega
          by_cases g50 : i = 50
          · subst g50; simp [va_up, mI] <;> omega
          by_cases g51 : i = 51
          · subst g51; simp [va_up, mI] <;> omega
          by_cases g52 : i = 52
          · subst g52; simp [va_up, mI] <;> omega
          by_cases g54 : i = 54
          · subst g54; simp [va_up, mI] <;> omega
          by_cases g55 : i = 55
          · subst g55; simp [va_up, mI] <;> omega
          by_cases g56 : i = 56
          · subst g56; simp [va_up, mI] <;> omega
          by_cases g59 : i = 59
          · subst g59; simp [va_up, mI] <;> omega
          simp [va_up, mI, g49, g50, g51, g52, g54, g55, g56, g59]
        exact m_zret hC hQ hr hlk hM hS (by decide) dX2_steps_196 (by rw [es]; exact ⟨rfl, eI, updZ (updZ tc (stk.length : Int) 9) ((stk.length : Int) + 1) 10, dd, ww, (show upF (upF (mF F9 tc dd ww bg cs) 53 (stk.length : Int) 9) 53 ((stk.length : Int) + 1) 10 = mF F9 (updZ (updZ tc (stk.length : Int) 9) ((stk.length : Int) + 1) 10) dd ww bg cs from by rw [upF_mF53, upF_mF53]), (stkIs_push 10 (by first | rfl | (simp only [List.length_cons]; omega)) (stkIs_push 9 (by first | rfl | (simp only [List.length_cons]; omega)) hstk)), hout⟩)
      · refine lv_tableIn (tgt := 197) (off := 147) hx hb dX2_steps_50 (by decide) (by decide) (by decide) (by decide) ?_
        refine lv_aload_n hx hb dX2_steps_197 rfl (lv_at hl 0 rfl) ?_
        refine r_bipush hx hb dX2_steps_198 (by decide) ?_
        refine r_bipush hx hb dX2_steps_200 (by decide) ?_
        refine r_bipush hx hb dX2_steps_202 (by decide) ?_
        refine r_bipush hx hb dX2_steps_204 (by decide) ?_
        refine m_calli (m_runE (n := 4) (rest := []) (as := [.int (iI 10), .int (iI 9), .int (iI 9), .int (iI 10)]) hC hml (met_moreWords l adK adV st D E A h ad (mI I9 (F9 47) pz (stk.length : Int) d cl (out.length : Int)) (mF F9 tc dd ww bg cs) 10 9 9 10 (by decide) h49 h54 h59 h55 r50 r52 gl0) q1445 q1447 qs59 q73 q1448 (by decide +kernel) ⟨rfl, rfl⟩ hR (by decide) ⟨Nat.zero_le _, Nat.zero_le _⟩ hM hE hS rfl hl.1 rfl (Nat.le_of_ble_eq_true rfl) dX2_steps_206) hS (fun z39 I40 F41 H locs hp42 hM hS => ?_)
        rcases hp42 with ⟨hc, rfl, rfl, rfl⟩ | ⟨hc, rfl, rfl, rfl⟩
        · refine W.eq (g2 := F0 m 209 ls [.int (iI 1)]) rfl ?_
          have hc : tK (F9 47) (I9 48) pz = 2 ∧ tV (F9 47) (I9 48) pz = 10 := hc
          have es : stepS (F9 47) (I9 48) 9 pz stk d out cl bg cs = some (tT (F9 47) (I9 48) pz, 10 :: 1009 :: 9 :: stk, d, out, cl, bg, cs) := by rw [stepS_9, if_pos hc]
          have eI : va_up (va_up (va_up (va_up (va_up (va_up (va_up (mI I9 (F9 47) pz (stk.length : Int) d cl (out.length : Int)) 49 (tT (F9 47) (I9 48) (tT (F9 47) (I9 48) pz))) 50 (tK (F9 47) (I9 48) (tT (F9 47) (I9 48) pz))) 51 (tF (F9 47) (I9 48) (tT (F9 47) (I9 48) pz))) 52 (tV (F9 47) (I9 48) (tT (F9 47) (I9 48) pz))) 54 ((stk.length : Int) + 1)) 54 (((stk.length : Int) + 1) + 1)) 54 ((((stk.length : Int) + 1) + 1) + 1) = mI I9 (F9 47) (tT (F9 47) (I9 48) pz) ((10 :: 1009 :: 9 :: stk : List Int).length : Int) (d) (cl) ((out : List (Int × Int)).length : Int) := by
            funext i
            by_cases g49 : i = 49
            · subst g49; simp [va_up, mI] <;> omega
            by_cases g50 : i = 50
            · subst g50; simp [va_up, mI] <;> omega
            by_cases g51 : i = 51
            · subst g51; simp [va_up, mI] <;> omega
            by_cases g52 : i = 52
            · subst g52; simp [va_up, mI] <;> omega
            by_cases g54 : i = 54
            · subst g54; simp [va_up, mI] <;> omega
            by_cases g55 : i = 55
            · subst g55; simp [va_up, mI] <;> omega
            by_cases g56 : i = 56
            · subst g56; simp [va_up, mI] <;> omega
            by_cases g59 : i = 59
            · subst g59; simp [va_up, mI] <;> omega
            simp [va_up, mI, g49, g50, g51, g52, g54, g55, g56, g59]
          exact m_zret hC hQ hr hlk hM hS (by decide) dX2_steps_209 (by rw [es]; exact ⟨rfl, eI, updZ (updZ (updZ tc (stk.length : Int) 9) ((stk.length : Int) + 1) (1000 + 9)) (((stk.length : Int) + 1) + 1) 10, dd, ww, (show upF (upF (upF (mF F9 tc dd ww bg cs) 53 (stk.length : Int) 9) 53 ((stk.length : Int) + 1) (1000 + 9)) 53 (((stk.length : Int) + 1) + 1) 10 = mF F9 (updZ (updZ (updZ tc (stk.length : Int) 9) ((stk.length : Int) + 1) (1000 + 9)) (((stk.length : Int) + 1) + 1) 10) dd ww bg cs from by rw [upF_mF53, upF_mF53, upF_mF53]), (stkIs_push 10 (by first | rfl | (simp only [List.length_cons]; omega)) (stkIs_push 1009 (by first | rfl | (simp only [List.length_cons]; omega)) (stkIs_push 9 (by first | rfl | (simp only [List.length_cons]; omega)) hstk))), hout⟩)
        · refine W.eq (g2 := F0 m 209 ls [.int (iI 1)]) rfl ?_
          have hc : ¬ (tK (F9 47) (I9 48) pz = 2 ∧ tV (F9 47) (I9 48) pz = 10) := hc
          have es : stepS (F9 47) (I9 48) 9 pz stk d out cl bg cs = some (pz, stk, d, out, cl, bg, cs) := by rw [stepS_9, if_neg hc]
          have eI : mI I9 (F9 47) pz (stk.length : Int) d cl (out.length : Int) = mI I9 (F9 47) (pz) ((stk : List Int).length : Int) (d) (cl) ((out : List (Int × Int)).length : Int) := by
            funext i
            by_cases g49 : i = 49
            · subst g49; simp [va_up, mI] <;> omega
            by_cases g50 : i = 50
            · subst g50; simp [va_up, mI] <;> omega
            by_cases g51 : i = 51
            · subst g51; simp [va_up, mI] <;> omega
            by_cases g52 : i = 52
            · subst g52; simp [va_up, mI] <;> omega
            by_cases g54 : i = 54
            · subst g54; simp [va_up, mI] <;> omega
            by_cases g55 : i = 55
            · subst g55; simp [va_up, mI] <;> omega
            by_cases g56 : i = 56
            · subst g56; simp [va_up, mI] <;> omega
            by_cases g59 : i = 59
            · subst g59; simp [va_up, mI] <;> omega
            simp [va_up, mI, g49, g50, g51, g52, g54, g55, g56, g59]
          exact m_zret hC hQ hr hlk hM hS (by decide) dX2_steps_209 (by rw [es]; exact ⟨rfl, eI, tc, dd, ww, rfl, hstk, hout⟩)
      · refine lv_tableIn (tgt := 210) (off := 160) hx hb dX2_steps_50 (by decide) (by decide) (by decide) (by decide) ?_
        refine lv_aload_n hx hb dX2_steps_210 rfl (lv_at hl 0 rfl) ?_
        refine m_calli (m_runE (n := 0) (rest := []) (as := []) hC hml (met_holdsOne l adK adV st D E A h ad (mI I9 (F9 47) pz (stk.length : Int) d cl (out.length : Int)) (mF F9 tc dd ww bg cs) h49 h54 h59 h55 r50 r52 gl0) q1453 q1455 qs61 q73 q1456 (by decide +kernel) ⟨rfl, rfl⟩ hR (by decide) ⟨Nat.zero_le _, Nat.zero_le _⟩ hM hE hS rfl hl.1 rfl (Nat.le_of_ble_eq_true rfl) dX2_steps_211) hS (fun z43 I44 F45 H locs hp46 hM hS => ?_)
        rcases hp46 with ⟨hc, hc2, rfl, rfl, rfl⟩ | ⟨hc, hc2, rfl, rfl, rfl⟩ | ⟨hc, hc2, rfl, rfl, rfl⟩ | ⟨hc, hc2, rfl, rfl, rfl⟩
        · refine W.eq (g2 := F0 m 214 ls [.int (iI 1)]) rfl ?_
          have hc : tK (F9 47) (I9 48) pz = 2 ∧ tV (F9 47) (I9 48) pz = 11 := hc
          have hc2 : ¬ d = 8 := hc2
          have es : stepS (F9 47) (I9 48) 10 pz stk d out cl bg cs = some (tT (F9 47) (I9 48) pz, 10 :: 1011 :: 12 :: stk, d + 1, out, cl, bg, cs) := by rw [stepS_10, if_pos hc, if_neg hc2]
          have eI : va_up (va_up (va_up (va_up (va_up (va_up (va_up (va_up (mI I9 (F9 47) pz (stk.length : Int) d cl (out.length : Int)) 55 (d + 1)) 54 ((stk.length : Int) + 1)) 54 (((stk.length : Int) + 1) + 1)) 54 ((((stk.length : Int) + 1) + 1) + 1)) 49 (tT (F9 47) (I9 48) (tT (F9 47) (I9 48) pz))) 50 (tK (F9 47) (I9 48) (tT (F9 47) (I9 48) pz))) 51 (tF (F9 47) (I9 48) (tT (F9 47) (I9 48) pz))) 52 (tV (F9 47) (I9 48) (tT (F9 47) (I9 48) pz)) = mI I9 (F9 47) (tT (F9 47) (I9 48) pz) ((10 :: 1011 :: 12 :: stk : List Int).length : Int) (d + 1) (cl) ((out : List (Int × Int)).length : Int) := by
            funext i
            by_cases g49 : i = 49
            · subst g49; simp [va_up, mI] <;> omega
            by_cases g50 : i = 50
            · subst g50; simp [va_up, mI] <;> omega
            by_cases g51 : i = 51
            · subst g51; simp [va_up, mI] <;> omega
            by_cases g52 : i = 52
            · subst g52; simp [va_up, mI] <;> omega
            by_cases g54 : i = 54
            · subst g54; simp [va_up, mI] <;> omega
            by_cases g55 : i = 55
            · subst g55; simp [va_up, mI] <;> omega
            by_cases g56 : i = 56
            · subst g56; simp [va_up, mI] <;> omega
            by_cases g59 : i = 59
            · subst g59; simp [va_up, mI] <;> omega
            simp [va_up, mI, g49, g50, g51, g52, g54, g55, g56, g59]
          exact m_zret hC hQ hr hlk hM hS (by decide) dX2_steps_214 (by rw [es]; exact ⟨rfl, eI, updZ (updZ (updZ tc (stk.length : Int) 12) ((stk.length : Int) + 1) 1011) (((stk.length : Int) + 1) + 1) 10, dd, ww, (show upF (upF (upF (mF F9 tc dd ww bg cs) 53 (stk.length : Int) 12) 53 ((stk.length : Int) + 1) 1011) 53 (((stk.length : Int) + 1) + 1) 10 = mF F9 (updZ (updZ (updZ tc (stk.length : Int) 12) ((stk.length : Int) + 1) 1011) (((stk.length : Int) + 1) + 1) 10) dd ww bg cs from by rw [upF_mF53, upF_mF53, upF_mF53]), (stkIs_push 10 (by first | rfl | (simp only [List.length_cons]; omega)) (stkIs_push 1011 (by first | rfl | (simp only [List.length_cons]; omega)) (stkIs_push 12 (by first | rfl | (simp only [List.length_cons]; omega)) hstk))), hout⟩)
        · refine W.eq (g2 := F0 m 214 ls [.int (iI 1)]) rfl ?_
          have hc : tK (F9 47) (I9 48) pz = 3 ∧ tV (F9 47) (I9 48) pz = 91 := hc
          have hc2 : ¬ d = 8 := hc2
          have es : stepS (F9 47) (I9 48) 10 pz stk d out cl bg cs = some (tT (F9 47) (I9 48) pz, 6 :: 193 :: 12 :: stk, d + 1, out, cl, bg, cs) := by rw [stepS_10, if_neg (show ¬ (tK (F9 47) (I9 48) pz = 2 ∧ tV (F9 47) (I9 48) pz = 11) by omega), if_pos hc, if_neg hc2]
          have eI : va_up (va_up (va_up (va_up (va_up (va_up (va_up (va_up (mI I9 (F9 47) pz (stk.length : Int) d cl (out.length : Int)) 55 (d + 1)) 54 ((stk.length : Int) + 1)) 54 (((stk.length : Int) + 1) + 1)) 54 ((((stk.length : Int) + 1) + 1) + 1)) 49 (tT (F9 47) (I9 48) (tT (F9 47) (I9 48) pz))) 50 (tK (F9 47) (I9 48) (tT (F9 47) (I9 48) pz))) 51 (tF (F9 47) (I9 48) (tT (F9 47) (I9 48) pz))) 52 (tV (F9 47) (I9 48) (tT (F9 47) (I9 48) pz)) = mI I9 (F9 47) (tT (F9 47) (I9 48) pz) ((6 :: 193 :: 12 :: stk : List Int).length : Int) (d + 1) (cl) ((out : List (Int × Int)).length : Int) := by
            funext i
            by_cases g49 : i = 49
            · subst g49; simp [va_up, mI] <;> omega
            by_cases g50 : i = 50
            · subst g50; simp [va_up, mI] <;> omega
            by_cases g51 : i = 51
            · subst g51; simp [va_up, mI] <;> omega
            by_cases g52 : i = 52
            · subst g52; simp [va_up, mI] <;> omega
            by_cases g54 : i = 54
            · subst g54; simp [va_up, mI] <;> omega
            by_cases g55 : i = 55
            · subst g55; simp [va_up, mI] <;> omega
            by_cases g56 : i = 56
            · subst g56; simp [va_up, mI] <;> omega
            by_cases g59 : i = 59
            · subst g59; simp [va_up, mI] <;> omega
            simp [va_up, mI, g49, g50, g51, g52, g54, g55, g56, g59]
          exact m_zret hC hQ hr hlk hM hS (by decide) dX2_steps_214 (by rw [es]; exact ⟨rfl, eI, updZ (updZ (updZ tc (stk.length : Int) 12) ((stk.length : Int) + 1) 193) (((stk.length : Int) + 1) + 1) 6, dd, ww, (show upF (upF (upF (mF F9 tc dd ww bg cs) 53 (stk.length : Int) 12) 53 ((stk.length : Int) + 1) 193) 53 (((stk.length : Int) + 1) + 1) 6 = mF F9 (updZ (updZ (updZ tc (stk.length : Int) 12) ((stk.length : Int) + 1) 193) (((stk.length : Int) + 1) + 1) 6) dd ww bg cs from by rw [upF_mF53, upF_mF53, upF_mF53]), (stkIs_push 6 (by first | rfl | (simp only [List.length_cons]; omega)) (stkIs_push 193 (by first | rfl | (simp only [List.length_cons]; omega)) (stkIs_push 12 (by first | rfl | (simp only [List.length_cons]; omega)) hstk))), hout⟩)
        · refine W.eq (g2 := F0 m 214 ls [.int (iI 0)]) rfl ?_
          have hc : (tK (F9 47) (I9 48) pz = 2 ∧ tV (F9 47) (I9 48) pz = 11) ∨ (tK (F9 47) (I9 48) pz = 3 ∧ tV (F9 47) (I9 48) pz = 91) := hc
          have hc2 : d = 8 := hc2
          have es : stepS (F9 47) (I9 48) 10 pz stk d out cl bg cs = none := by
            rw [stepS_10]
            rcases hc with q1 | q1
            · rw [if_pos q1, if_pos hc2]
            · rw [if_neg (show ¬ (tK (F9 47) (I9 48) pz = 2 ∧ tV (F9 47) (I9 48) pz = 11) by omega), if_pos q1, if_pos hc2]
          exact m_zret hC hQ hr hlk hM hS (by decide) dX2_steps_214 (by rw [es]; exact ⟨rfl, rfl, rfl⟩)
        · refine W.eq (g2 := F0 m 214 ls [.int (iI 1)]) rfl ?_
          have hc : ¬ (tK (F9 47) (I9 48) pz = 2 ∧ tV (F9 47) (I9 48) pz = 11) := hc
          have hc2 : ¬ (tK (F9 47) (I9 48) pz = 3 ∧ tV (F9 47) (I9 48) pz = 91) := hc2
          have es : stepS (F9 47) (I9 48) 10 pz stk d out cl bg cs = some (pz, 1 :: 11 :: stk, d, out, cl, bg, cs) := by rw [stepS_10, if_neg hc, if_neg hc2]
          have eI : va_up (va_up (mI I9 (F9 47) pz (stk.length : Int) d cl (out.length : Int)) 54 ((stk.length : Int) + 1)) 54 (((stk.length : Int) + 1) + 1) = mI I9 (F9 47) (pz) ((1 :: 11 :: stk : List Int).length : Int) (d) (cl) ((out : List (Int × Int)).length : Int) := by
            funext i
            by_cases g49 : i = 49
            · subst g49; simp [va_up, mI] <;> omega
            by_cases g50 : i = 50
            · subst g50; simp [va_up, mI] <;> omega
            by_cases g51 : i = 51
            · subst g51; simp [va_up, mI] <;> omega
            by_cases g52 : i = 52
            · subst g52; simp [va_up, mI] <;> omega
            by_cases g54 : i = 54
            · subst g54; simp [va_up, mI] <;> omega
            by_cases g55 : i = 55
            · subst g55; simp [va_up, mI] <;> omega
            by_cases g56 : i = 56
            · subst g56; simp [va_up, mI] <;> omega
            by_cases g59 : i = 59
            · subst g59; simp [va_up, mI] <;> omega
            simp [va_up, mI, g49, g50, g51, g52, g54, g55, g56, g59]
          exact m_zret hC hQ hr hlk hM hS (by decide) dX2_steps_214 (by rw [es]; exact ⟨rfl, eI, updZ (updZ tc (stk.length : Int) 11) ((stk.length : Int) + 1) 1, dd, ww, (show upF (upF (mF F9 tc dd ww bg cs) 53 (stk.length : Int) 11) 53 ((stk.length : Int) + 1) 1 = mF F9 (updZ (updZ tc (stk.length : Int) 11) ((stk.length : Int) + 1) 1) dd ww bg cs from by rw [upF_mF53, upF_mF53]), (stkIs_push 1 (by first | rfl | (simp only [List.length_cons]; omega)) (stkIs_push 11 (by first | rfl | (simp only [List.length_cons]; omega)) hstk)), hout⟩)
      · refine lv_tableIn (tgt := 215) (off := 165) hx hb dX2_steps_50 (by decide) (by decide) (by decide) (by decide) ?_
        refine lv_aload_n hx hb dX2_steps_215 rfl (lv_at hl 0 rfl) ?_
        refine m_calli (m_runE (n := 0) (rest := []) (as := []) hC hml (met_compares l adK adV st D E A h ad (mI I9 (F9 47) pz (stk.length : Int) d cl (out.length : Int)) (mF F9 tc dd ww bg cs) h49 h54 h59 h55 r50 r52 gl0) q1457 q1459 qs62 q73 q1460 (by decide +kernel) ⟨rfl, rfl⟩ hR (by decide) ⟨Nat.zero_le _, Nat.zero_le _⟩ hM hE hS rfl hl.1 rfl (Nat.le_of_ble_eq_true rfl) dX2_steps_216) hS (fun z47 I48 F49 H locs hp50 hM hS => ?_)
        rcases hp50 with ⟨hc, rfl, rfl, rfl⟩ | ⟨hc, rfl, rfl, rfl⟩
        · refine W.eq (g2 := F0 m 219 ls [.int (iI 1)]) rfl ?_
          have hc : tK (F9 47) (I9 48) pz = 3 ∧ (tV (F9 47) (I9 48) pz = 60 ∨ tV (F9 47) (I9 48) pz = 62 ∨ tV (F9 47) (I9 48) pz = 61) := hc
          have es : stepS (F9 47) (I9 48) 11 pz stk d out cl bg cs = some (tT (F9 47) (I9 48) pz, 1 :: (1000 + if tV (F9 47) (I9 48) pz = 60 then 6 else if tV (F9 47) (I9 48) pz = 62 then 7 else 8) :: stk, d, out, cl, bg, cs) := by rw [stepS_11, if_pos hc]
          have eI : va_up (va_up (va_up (va_up (va_up (va_up (mI I9 (F9 47) pz (stk.length : Int) d cl (out.length : Int)) 54 ((stk.length : Int) + 1)) 54 (((stk.length : Int) + 1) + 1)) 49 (tT (F9 47) (I9 48) (tT (F9 47) (I9 48) pz))) 50 (tK (F9 47) (I9 48) (tT (F9 47) (I9 48) pz))) 51 (tF (F9 47) (I9 48) (tT (F9 47) (I9 48) pz))) 52 (tV (F9 47) (I9 48) (tT (F9 47) (I9 48) pz)) = mI I9 (F9 47) (tT (F9 47) (I9 48) pz) ((1 :: (1000 + if tV (F9 47) (I9 48) pz = 60 then 6 else if tV (F9 47) (I9 48) pz = 62 then 7 else 8) :: stk : List Int).length : Int) (d) (cl) ((out : List (Int × Int)).length : Int) := by
            funext i
            by_cases g49 : i = 49
            · subst g49; simp [va_up, mI] <;> omega
            by_cases g50 : i = 50
            · subst g50; simp [va_up, mI] <;> omega
            by_cases g51 : i = 51
            · subst g51; simp [va_up, mI] <;> omega
            by_cases g52 : i = 52
            · subst g52; simp [va_up, mI] <;> omega
            by_cases g54 : i = 54
            · subst g54; simp [va_up, mI] <;> omega
            by_cases g55 : i = 55
            · subst g55; simp [va_up, mI] <;> omega
            by_cases g56 : i = 56
            · subst g56; simp [va_up, mI] <;> omega
            by_cases g59 : i = 59
            · subst g59; simp [va_up, mI] <;> omega
            simp [va_up, mI, g49, g50, g51, g52, g54, g55, g56, g59]
          exact m_zret hC hQ hr hlk hM hS (by decide) dX2_steps_219 (by rw [es]; exact ⟨rfl, eI, updZ (updZ tc (stk.length : Int) (1000 + (if tV (F9 47) (I9 48) pz = 60 then 6 else if tV (F9 47) (I9 48) pz = 62 then 7 else 8))) ((stk.length : Int) + 1) 1, dd, ww, (show upF (upF (mF F9 tc dd ww bg cs) 53 (stk.length : Int) (1000 + (if tV (F9 47) (I9 48) pz = 60 then 6 else if tV (F9 47) (I9 48) pz = 62 then 7 else 8))) 53 ((stk.length : Int) + 1) 1 = mF F9 (updZ (updZ tc (stk.length : Int) (1000 + (if tV (F9 47) (I9 48) pz = 60 then 6 else if tV (F9 47) (I9 48) pz = 62 then 7 else 8))) ((stk.length : Int) + 1) 1) dd ww bg cs from by rw [upF_mF53, upF_mF53]), (stkIs_push 1 (by first | rfl | (simp only [List.length_cons]; omega)) (stkIs_push (1000 + if tV (F9 47) (I9 48) pz = 60 then 6 else if tV (F9 47) (I9 48) pz = 62 then 7 else 8) (by first | rfl | (simp only [List.length_cons]; omega)) hstk)), hout⟩)
        · refine W.eq (g2 := F0 m 219 ls [.int (iI 0)]) rfl ?_
          have hc : ¬ (tK (F9 47) (I9 48) pz = 3 ∧ (tV (F9 47) (I9 48) pz = 60 ∨ tV (F9 47) (I9 48) pz = 62 ∨ tV (F9 47) (I9 48) pz = 61)) := hc
          have es : stepS (F9 47) (I9 48) 11 pz stk d out cl bg cs = none := by rw [stepS_11, if_neg hc]
          exact m_zret hC hQ hr hlk hM hS (by decide) dX2_steps_219 (by rw [es]; exact ⟨rfl, rfl, rfl⟩)
      · refine lv_tableIn (tgt := 220) (off := 170) hx hb dX2_steps_50 (by decide) (by decide) (by decide) (by decide) ?_
        refine lv_aload_n hx hb dX2_steps_220 rfl (lv_at hl 0 rfl) ?_
        refine lv_dup hx hb dX2_steps_221 rfl ?_
        refine mg_55 (v := d) hC hM rfl dX2_steps_222 ?_
        refine r_iconst hx hb dX2_steps_225 ?_
        refine r_isub hx hb dX2_steps_226 ?_
        refine mp_55 hC hM hS dX2_steps_227 (fun H locs hM hS => ?_)
        refine r_iconst hx hb dX2_steps_230 ?_
        have es : stepS (F9 47) (I9 48) 12 pz stk d out cl bg cs = some (pz, stk, d - 1, out, cl, bg, cs) := by rw [stepS_12]
        have eI : va_up (mI I9 (F9 47) pz (stk.length : Int) d cl (out.length : Int)) 55 (d - 1) = mI I9 (F9 47) (pz) ((stk : List Int).length : Int) (d - 1) (cl) ((out : List (Int × Int)).length : Int) := by
          funext i
          by_cases g49 : i = 49
          · subst g49; simp [va_up, mI] <;> omega
          by_cases g50 : i = 50
          · subst g50; simp [va_up, mI] <;> omega
          by_cases g51 : i = 51
          · subst g51; simp [va_up, mI] <;> omega
          by_cases g52 : i = 52
          · subst g52; simp [va_up, mI] <;> omega
          by_cases g54 : i = 54
          · subst g54; simp [va_up, mI] <;> omega
          by_cases g55 : i = 55
          · subst g55; simp [va_up, mI] <;> omega
          by_cases g56 : i = 56
          · subst g56; simp [va_up, mI] <;> omega
          by_cases g59 : i = 59
          · subst g59; simp [va_up, mI] <;> omega
          simp [va_up, mI, g49, g50, g51, g52, g54, g55, g56, g59]
        exact m_zret hC hQ hr hlk hM hS (by decide) dX2_steps_231 (by rw [es]; exact ⟨rfl, eI, tc, dd, ww, rfl, hstk, hout⟩)
    · have hg : 100 ≤ sz ∧ sz < 1000 := by omega
      refine lv_aload_n hx hb dX2_steps_25 rfl (lv_at hl 0 rfl) ?_
      refine lv_iload_n hx hb dX2_steps_26 rfl (lv_at hl 1 rfl) ?_
      refine r_bipush hx hb dX2_steps_27 (by decide) ?_
      refine r_isub hx hb dX2_steps_29 ?_
      refine m_calli (kX2_isSign (rest := []) (as := [.int (iI (sz - 100))]) hC hml (met_isSign l D E A h ad (mI I9 (F9 47) pz (stk.length : Int) d cl (out.length : Int)) (mF F9 tc dd ww bg cs) (sz - 100) (by omega) (show R32 (tK (F9 47) (I9 48) pz) by omega) (show R32 (tV (F9 47) (I9 48) pz) by omega)) ⟨rfl, rfl⟩ hR (by decide) hM rfl hl.1 rfl (Nat.le_of_ble_eq_true rfl) dX2_steps_30) hS (fun z51 I52 F53 H locs hp54 hM hS => ?_)
      obtain ⟨rfl, rfl, rfl⟩ := hp54
      refine r_ifeqB (tgt := 47) hx hb dX2_steps_33 (by decide) (fun hc => ?_) (fun hc => ?_)
      · have hc : ¬ (tK (F9 47) (I9 48) pz = 3 ∧ tV (F9 47) (I9 48) pz = sz - 100) := hc
        refine r_iconst hx hb dX2_steps_47 ?_
        have es : stepS (F9 47) (I9 48) sz pz stk d out cl bg cs = none := by rw [stepS_G (h := hg), if_neg hc]
        exact m_zret hC hQ hr hlk hM hS (by decide) dX2_steps_48 (by rw [es]; exact ⟨rfl, rfl, rfl⟩)
      · have hc : tK (F9 47) (I9 48) pz = 3 ∧ tV (F9 47) (I9 48) pz = sz - 100 := hc
        refine lv_aload_n hx hb dX2_steps_36 rfl (lv_at hl 0 rfl) ?_
        refine m_calli (m_runE (n := 0) (rest := []) (as := []) hC hml (met_takes l adK adV st D E A h ad (mI I9 (F9 47) pz (stk.length : Int) d cl (out.length : Int)) (mF F9 tc dd ww bg cs) (show 0 ≤ (tT (F9 47) (I9 48) pz) ∧ (tT (F9 47) (I9 48) pz) ≤ (I9 48) by omega) gl0) q1421 q1423 qs53 q73 q1424 (by decide +kernel) ⟨rfl, rfl⟩ hR (by decide) ⟨Nat.zero_le _, Nat.zero_le _⟩ hM hE hS rfl hl.1 rfl (Nat.le_of_ble_eq_true rfl) dX2_steps_37) hS (fun z55 I56 F57 H locs hp58 hM hS => ?_)
        obtain ⟨rfl, rfl, rfl⟩ := hp58
        refine r_if_eq (tgt := 47) hx hb dX2_steps_40 (by decide) (by decide) (fun c59 => absurd c59 (by decide)) (fun c59 => ?_)
        refine r_iconst hx hb dX2_steps_43 ?_
        refine lv_goto (tgt := 48) hx hb dX2_steps_44 (by decide) ?_
        have es : stepS (F9 47) (I9 48) sz pz stk d out cl bg cs = some (tT (F9 47) (I9 48) pz, stk, d, out, cl, bg, cs) := by rw [stepS_G (h := hg), if_pos hc]
        have eI : va_up (va_up (va_up (va_up (mI I9 (F9 47) pz (stk.length : Int) d cl (out.length : Int)) 49 (tT (F9 47) (I9 48) (tT (F9 47) (I9 48) pz))) 50 (tK (F9 47) (I9 48) (tT (F9 47) (I9 48) pz))) 51 (tF (F9 47) (I9 48) (tT (F9 47) (I9 48) pz))) 52 (tV (F9 47) (I9 48) (tT (F9 47) (I9 48) pz)) = mI I9 (F9 47) (tT (F9 47) (I9 48) pz) ((stk : List Int).length : Int) (d) (cl) ((out : List (Int × Int)).length : Int) := by
          funext i
          by_cases g49 : i = 49
          · subst g49; simp [va_up, mI] <;> omega
          by_cases g50 : i = 50
          · subst g50; simp [va_up, mI] <;> omega
          by_cases g51 : i = 51
          · subst g51; simp [va_up, mI] <;> omega
          by_cases g52 : i = 52
          · subst g52; simp [va_up, mI] <;> omega
          by_cases g54 : i = 54
          · subst g54; simp [va_up, mI] <;> omega
          by_cases g55 : i = 55
          · subst g55; simp [va_up, mI] <;> omega
          by_cases g56 : i = 56
          · subst g56; simp [va_up, mI] <;> omega
          by_cases g59 : i = 59
          · subst g59; simp [va_up, mI] <;> omega
          simp [va_up, mI, g49, g50, g51, g52, g54, g55, g56, g59]
        exact m_zret hC hQ hr hlk hM hS (by decide) dX2_steps_48 (by rw [es]; exact ⟨rfl, eI, tc, dd, ww, rfl, hstk, hout⟩)
  · have hg : 1000 ≤ sz := by omega
    refine lv_aload_n hx hb dX2_steps_7 rfl (lv_at hl 0 rfl) ?_
    refine lv_iload_n hx hb dX2_steps_8 rfl (lv_at hl 1 rfl) ?_
    refine r_sipush hx hb dX2_steps_9 (by decide) ?_
    refine r_isub hx hb dX2_steps_12 ?_
    refine r_iconst hx hb dX2_steps_13 ?_
    refine m_callv (kX2_emits (rest := []) (as := [.int (iI (sz - 1000)), .int (iI 0)]) hC hml (met_emits l D E A h ad (mI I9 (F9 47) pz (stk.length : Int) d cl (out.length : Int)) (mF F9 tc dd ww bg cs) (sz - 1000) 0 (show 0 ≤ (out.length : Int) ∧ (out.length : Int) < 300 by omega)) ⟨rfl, rfl⟩ hR (by decide) hM rfl hl.1 rfl (Nat.le_of_ble_eq_true rfl) dX2_steps_14) hS (fun I61 F62 H locs hp63 hM hS => ?_)
    obtain ⟨rfl, rfl⟩ := hp63
    refine r_iconst hx hb dX2_steps_17 ?_
    have es : stepS (F9 47) (I9 48) sz pz stk d out cl bg cs = some (pz, stk, d, out ++ [(sz - 1000, 0)], cl, bg, cs) := by rw [stepS_D (h := hg)]
    have eI : va_up (mI I9 (F9 47) pz (stk.length : Int) d cl (out.length : Int)) 59 ((out.length : Int) + 1) = mI I9 (F9 47) (pz) ((stk : List Int).length : Int) (d) (cl) ((out ++ [(sz - 1000, 0)] : List (Int × Int)).length : Int) := by
      funext i
      by_cases g49 : i = 49
      · subst g49; simp [va_up, mI] <;> omega
      by_cases g50 : i = 50
      · subst g50; simp [va_up, mI] <;> omega
      by_cases g51 : i = 51
      · subst g51; simp [va_up, mI] <;> omega
      by_cases g52 : i = 52
      · subst g52; simp [va_up, mI] <;> omega
      by_cases g54 : i = 54
      · subst g54; simp [va_up, mI] <;> omega
      by_cases g55 : i = 55
      · subst g55; simp [va_up, mI] <;> omega
      by_cases g56 : i = 56
      · subst g56; simp [va_up, mI] <;> omega
      by_cases g59 : i = 59
      · subst g59; simp [va_up, mI] <;> omega
      simp [va_up, mI, g49, g50, g51, g52, g54, g55, g56, g59]
    exact m_zret hC hQ hr hlk hM hS (by decide) dX2_steps_18 (by rw [es]; exact ⟨rfl, eI, tc, updZ dd (out.length : Int) (sz - 1000), updZ ww (out.length : Int) 0, (show upF (upF (mF F9 tc dd ww bg cs) 57 (out.length : Int) (sz - 1000)) 58 (out.length : Int) 0 = mF F9 tc (updZ dd (out.length : Int) (sz - 1000)) (updZ ww (out.length : Int) 0) bg cs from by rw [upF_mF57, upF_mF58]), hstk, (outIs_add _ _ hout)⟩)
