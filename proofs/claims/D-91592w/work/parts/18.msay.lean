/-! THE MODEL: clauses worked out, what slides -/
set_option maxRecDepth 100000

theorem ofS_2 (a b : Int) : ofS 2 a b = clampZ (a + b) 1000000 := by
  unfold ofS
  rw [if_pos rfl]
theorem ofS_3 (a b : Int) : ofS 3 a b = clampZ (a - b) 1000000 := by
  unfold ofS
  rw [if_neg (by decide), if_pos rfl]
theorem ofS_4 (a b : Int) : ofS 4 a b = clampZ (a * b) 1000000 := by
  unfold ofS
  rw [if_neg (by decide), if_neg (by decide), if_pos rfl]
theorem ofS_5 (a b : Int) : ofS 5 a b = (if b = 0 then 0 else a.tdiv b) := by
  unfold ofS
  rw [if_neg (by decide), if_neg (by decide), if_neg (by decide), if_pos rfl]
theorem ofS_6 (a b : Int) : ofS 6 a b = (if a < b then 1 else 0) := by
  unfold ofS
  rw [if_neg (by decide), if_neg (by decide), if_neg (by decide), if_neg (by decide), if_pos rfl]
theorem ofS_7 (a b : Int) : ofS 7 a b = (if b < a then 1 else 0) := by
  unfold ofS
  rw [if_neg (by decide), if_neg (by decide), if_neg (by decide), if_neg (by decide), if_neg (by decide), if_pos rfl]
theorem ofS_8 (a b : Int) : ofS 8 a b = (if a = b then 1 else 0) := by
  unfold ofS
  rw [if_neg (by decide), if_neg (by decide), if_neg (by decide), if_neg (by decide), if_neg (by decide), if_neg (by decide), if_pos rfl]
theorem ofS_9 (a b : Int) : ofS 9 a b = (if a + b = 2 then 1 else 0) := by
  unfold ofS
  rw [if_neg (by decide), if_neg (by decide), if_neg (by decide), if_neg (by decide), if_neg (by decide), if_neg (by decide), if_neg (by decide), if_pos rfl]
theorem ofS_10 (a b : Int) : ofS 10 a b = (if 0 < a + b then 1 else 0) := by
  unfold ofS
  rw [if_neg (by decide), if_neg (by decide), if_neg (by decide), if_neg (by decide), if_neg (by decide), if_neg (by decide), if_neg (by decide), if_neg (by decide)]
theorem fedT_n {f b : Int → Int} {s k z : Int} (h : ¬ (s ≤ z ∧ z < s + k)) : fedT f s b k z = f z := if_neg h
theorem fedT_y {f b : Int → Int} {s k z : Int} (h : s ≤ z ∧ z < s + k) : fedT f s b k z = b (z - s) := if_pos h
theorem fedT_skip {f b : Int → Int} {s k : Int} (hk : 0 ≤ k) (h : b k = f (s + k)) : fedT f s b k = fedT f s b (k + 1) := by
  rw [← fedT_s f s b hk, h]
  funext z
  by_cases hz : z = s + k
  · subst hz
    rw [updZ_s, fedT_n (by omega)]
  · rw [updZ_n hz]
theorem fedT_id {f b : Int → Int} {s n : Int} (h : ∀ w, 0 ≤ w → w < n → f (s + w) = b w) : fedT f s b n = f := by
  funext z
  unfold fedT
  split
  · rw [← h (z - s) (by omega) (by omega)]
    congr 1
    omega
  · rfl
theorem fedT_cg {f b b' : Int → Int} {s n : Int} (h : ∀ w, 0 ≤ w → w < n → b w = b' w) : fedT f s b n = fedT f s b' n := by
  funext z
  unfold fedT
  split
  · exact h _ (by omega) (by omega)
  · rfl
/-- n written of N: the rest is as it was -/
theorem fedT_fed {f b g : Int → Int} {s n N : Int} (hn : 0 ≤ n ∧ n ≤ N) (h : ∀ w, 0 ≤ w → w < N → f (s + w) = g w) : fedT f s (fedT g 0 b n) N = fedT f s b n := by
  funext z
  unfold fedT
  by_cases h1 : s ≤ z ∧ z < s + N
  · rw [if_pos h1]
    by_cases h2 : s ≤ z ∧ z < s + n
    · rw [if_pos h2, if_pos (by omega)]
      congr 1
      omega
    · rw [if_neg h2, if_neg (by omega), ← h (z - s) (by omega) (by omega)]
      congr 1
      omega
  · rw [if_neg h1, if_neg (by omega)]
theorem updZ_id {f : Int → Int} {z v : Int} (h : f z = v) : updZ f z v = f := by
  funext y
  by_cases hy : y = z
  · subst hy; rw [updZ_s, h]
  · rw [updZ_n hy]
theorem updZ_updZ (f : Int → Int) (z v w : Int) : updZ (updZ f z v) z w = updZ f z w := by
  funext y
  by_cases hy : y = z
  · subst hy; rw [updZ_s, updZ_s]
  · rw [updZ_n hy, updZ_n hy, updZ_n hy]
theorem fedT_4 (f b : Int → Int) (s : Int) : updZ (updZ (updZ (updZ f s (b 0)) (s + 1) (b 1)) (s + 2) (b 2)) (s + 3) (b 3) = fedT f s b 4 := by
  rw [show (4 : Int) = 3 + 1 by decide, ← fedT_s f s b (by decide), show (3 : Int) = 2 + 1 by decide, ← fedT_s f s b (by decide), show (2 : Int) = 1 + 1 by decide, ← fedT_s f s b (by decide), show (1 : Int) = 0 + 1 by decide, ← fedT_s f s b (by decide), fedT_0]
  simp
theorem okM_d {dd ww : Int → Int} {n : Nat} {k : Int} {tp : Int → Int} {top : Int} (hm : okM dd ww (n + 1) k tp top) : (0 ≤ dd k ∧ dd k ≤ 11) ∧ (0 ≤ top ∧ top ≤ 40) ∧ (dd k ≤ 1 → top < 40) ∧ (0 ≤ dd k → dd k ≤ 0 → 0 ≤ ww k ∧ ww k ≤ 9999) ∧ (dd k = 1 → 0 ≤ ww k ∧ ww k ≤ 6) ∧ (2 ≤ dd k → dd k ≤ 10 → 2 ≤ top) ∧ (dd k = 11 → 1 ≤ top) := by
  unfold okM at hm
  rcases hm with ⟨hd, ht, hw, -⟩ | ⟨hd, ht, hw, -⟩ | ⟨hd, ht, -⟩ | ⟨hd, ht, -⟩ | ⟨hd, ht, -⟩ | ⟨hd, ht, -⟩ <;> omega
/-- a lot of the Model's ship -/
def setLot (F : Nat → Int → Int) (lot : Int) (J : Nat → Int) (G : Nat → Int → Int) (g g1 : Int → Int) : Nat → Int → Int := fun k => if k = 27 then fedT (F 27) (12 * lot) (G 0) 12 else if k = 28 then updZ (F 28) lot (J 0) else if k = 29 then updZ (F 29) lot (J 1) else if k = 30 then updZ (F 30) lot (J 2) else if k = 31 then updZ (F 31) lot (J 3) else if k = 32 then updZ (F 32) lot (J 4) else if k = 33 then fedT (F 33) (6 * lot) (G 1) 6 else if k = 34 then fedT (F 34) (6 * lot) (G 2) 6 else if k = 35 then fedT (F 35) (4 * lot) (G 3) 4 else if k = 71 then g else if k = 72 then g1 else F k
theorem setLot_ext {F F1 : Nat → Int → Int} {lot : Int} {J : Nat → Int} {G : Nat → Int → Int} {g g1 : Int → Int} (h27 : fedT (F 27) (12 * lot) (G 0) 12 = F1 27) (h28 : updZ (F 28) lot (J 0) = F1 28) (h29 : updZ (F 29) lot (J 1) = F1 29) (h30 : updZ (F 30) lot (J 2) = F1 30) (h31 : updZ (F 31) lot (J 3) = F1 31) (h32 : updZ (F 32) lot (J 4) = F1 32) (h33 : fedT (F 33) (6 * lot) (G 1) 6 = F1 33) (h34 : fedT (F 34) (6 * lot) (G 2) 6 = F1 34) (h35 : fedT (F 35) (4 * lot) (G 3) 4 = F1 35) (h71 : g = F1 71) (h72 : g1 = F1 72) (ho : ∀ k, k ≠ 27 → k ≠ 28 → k ≠ 29 → k ≠ 30 → k ≠ 31 → k ≠ 32 → k ≠ 33 → k ≠ 34 → k ≠ 35 → k ≠ 71 → k ≠ 72 → F k = F1 k) : setLot F lot J G g g1 = F1 := by
  funext k
  unfold setLot
  by_cases c27 : k = 27
  · rw [if_pos c27, c27, h27]
  rw [if_neg c27]
  by_cases c28 : k = 28
  · rw [if_pos c28, c28, h28]
  rw [if_neg c28]
  by_cases c29 : k = 29
  · rw [if_pos c29, c29, h29]
  rw [if_neg c29]
  by_cases c30 : k = 30
  · rw [if_pos c30, c30, h30]
  rw [if_neg c30]
  by_cases c31 : k = 31
  · rw [if_pos c31, c31, h31]
  rw [if_neg c31]
  by_cases c32 : k = 32
  · rw [if_pos c32, c32, h32]
  rw [if_neg c32]
  by_cases c33 : k = 33
  · rw [if_pos c33, c33, h33]
  rw [if_neg c33]
  by_cases c34 : k = 34
  · rw [if_pos c34, c34, h34]
  rw [if_neg c34]
  by_cases c35 : k = 35
  · rw [if_pos c35, c35, h35]
  rw [if_neg c35]
  by_cases c71 : k = 71
  · rw [if_pos c71, c71, h71]
  rw [if_neg c71]
  by_cases c72 : k = 72
  · rw [if_pos c72, c72, h72]
  rw [if_neg c72]
  exact ho k c27 c28 c29 c30 c31 c32 c33 c34 c35 c71 c72
/-- the lot is the ship J, G -/
def isLot (F : Nat → Int → Int) (lot : Int) (J : Nat → Int) (G : Nat → Int → Int) : Prop := F 28 lot = J 0 ∧ F 29 lot = J 1 ∧ F 30 lot = J 2 ∧ F 31 lot = J 3 ∧ F 32 lot = J 4 ∧ (∀ w, 0 ≤ w → w < 12 → F 27 (12 * lot + w) = G 0 w) ∧ (∀ w, 0 ≤ w → w < 6 → F 33 (6 * lot + w) = G 1 w) ∧ (∀ w, 0 ≤ w → w < 6 → F 34 (6 * lot + w) = G 2 w) ∧ ∀ w, 0 ≤ w → w < 4 → F 35 (4 * lot + w) = G 3 w
theorem fedT_of {f b : Int → Int} {s n w : Int} (h0 : 0 ≤ w) (h1 : w < n) : fedT f s b n (s + w) = b w := by
  rw [fedT_y (by omega)]
  congr 1
  omega
theorem isLot_set (F : Nat → Int → Int) (lot : Int) (J : Nat → Int) (G : Nat → Int → Int) (g g1 : Int → Int) : isLot (setLot F lot J G g g1) lot J G := ⟨updZ_s, updZ_s, updZ_s, updZ_s, updZ_s, fun _ h0 h1 => fedT_of h0 h1, fun _ h0 h1 => fedT_of h0 h1, fun _ h0 h1 => fedT_of h0 h1, fun _ h0 h1 => fedT_of h0 h1⟩
theorem setLot_self {F : Nat → Int → Int} {lot : Int} {J : Nat → Int} {G : Nat → Int → Int} (h : isLot F lot J G) : setLot F lot J G (F 71) (F 72) = F := by
  obtain ⟨h28, h29, h30, h31, h32, h27, h33, h34, h35⟩ := h
  exact setLot_ext (fedT_id h27) (updZ_id h28) (updZ_id h29) (updZ_id h30) (updZ_id h31) (updZ_id h32) (fedT_id h33) (fedT_id h34) (fedT_id h35) rfl rfl (fun _ _ _ _ _ _ _ _ _ _ _ _ => rfl)
theorem dX2_of_0 : decode cX2_of 0 = .ok (.iload_n 0, 1) := by decide +kernel
theorem dX2_of_1 : decode cX2_of 1 = .ok (.tableswitch 138 2 9 #[47, 58, 69, 80, 92, 103, 114, 125], 47) := by decide +kernel
theorem dX2_of_48 : decode cX2_of 48 = .ok (.iload_n 1, 1) := by decide +kernel
theorem dX2_of_49 : decode cX2_of 49 = .ok (.i2l, 1) := by decide +kernel
theorem dX2_of_50 : decode cX2_of 50 = .ok (.iload_n 2, 1) := by decide +kernel
theorem dX2_of_51 : decode cX2_of 51 = .ok (.i2l, 1) := by decide +kernel
theorem dX2_of_52 : decode cX2_of 52 = .ok (.ladd, 1) := by decide +kernel
theorem dX2_of_53 : decode cX2_of 53 = .ok (.ldc 236, 2) := by decide +kernel
theorem dX2_of_55 : decode cX2_of 55 = .ok (.invokestatic 250, 3) := by decide +kernel
theorem dX2_of_58 : decode cX2_of 58 = .ok (.ireturn, 1) := by decide +kernel
theorem dX2_of_59 : decode cX2_of 59 = .ok (.iload_n 1, 1) := by decide +kernel
theorem dX2_of_60 : decode cX2_of 60 = .ok (.i2l, 1) := by decide +kernel
theorem dX2_of_61 : decode cX2_of 61 = .ok (.iload_n 2, 1) := by decide +kernel
theorem dX2_of_62 : decode cX2_of 62 = .ok (.i2l, 1) := by decide +kernel
theorem dX2_of_63 : decode cX2_of 63 = .ok (.lsub, 1) := by decide +kernel
theorem dX2_of_64 : decode cX2_of 64 = .ok (.ldc 236, 2) := by decide +kernel
theorem dX2_of_66 : decode cX2_of 66 = .ok (.invokestatic 250, 3) := by decide +kernel
theorem dX2_of_69 : decode cX2_of 69 = .ok (.ireturn, 1) := by decide +kernel
theorem dX2_of_70 : decode cX2_of 70 = .ok (.iload_n 1, 1) := by decide +kernel
theorem dX2_of_71 : decode cX2_of 71 = .ok (.i2l, 1) := by decide +kernel
theorem dX2_of_72 : decode cX2_of 72 = .ok (.iload_n 2, 1) := by decide +kernel
theorem dX2_of_73 : decode cX2_of 73 = .ok (.i2l, 1) := by decide +kernel
theorem dX2_of_74 : decode cX2_of 74 = .ok (.lmul, 1) := by decide +kernel
theorem dX2_of_75 : decode cX2_of 75 = .ok (.ldc 236, 2) := by decide +kernel
theorem dX2_of_77 : decode cX2_of 77 = .ok (.invokestatic 250, 3) := by decide +kernel
theorem dX2_of_80 : decode cX2_of 80 = .ok (.ireturn, 1) := by decide +kernel
theorem dX2_of_81 : decode cX2_of 81 = .ok (.iload_n 2, 1) := by decide +kernel
theorem dX2_of_82 : decode cX2_of 82 = .ok (.ifCond .ne 7, 3) := by decide +kernel
theorem dX2_of_85 : decode cX2_of 85 = .ok (.iconst 0, 1) := by decide +kernel
theorem dX2_of_86 : decode cX2_of 86 = .ok (.goto 6, 3) := by decide +kernel
theorem dX2_of_89 : decode cX2_of 89 = .ok (.iload_n 1, 1) := by decide +kernel
theorem dX2_of_90 : decode cX2_of 90 = .ok (.iload_n 2, 1) := by decide +kernel
theorem dX2_of_91 : decode cX2_of 91 = .ok (.idiv, 1) := by decide +kernel
theorem dX2_of_92 : decode cX2_of 92 = .ok (.ireturn, 1) := by decide +kernel
theorem dX2_of_93 : decode cX2_of 93 = .ok (.iload_n 1, 1) := by decide +kernel
theorem dX2_of_94 : decode cX2_of 94 = .ok (.iload_n 2, 1) := by decide +kernel
theorem dX2_of_95 : decode cX2_of 95 = .ok (.if_icmp .ge 7, 3) := by decide +kernel
theorem dX2_of_98 : decode cX2_of 98 = .ok (.iconst 1, 1) := by decide +kernel
theorem dX2_of_99 : decode cX2_of 99 = .ok (.goto 4, 3) := by decide +kernel
theorem dX2_of_102 : decode cX2_of 102 = .ok (.iconst 0, 1) := by decide +kernel
theorem dX2_of_103 : decode cX2_of 103 = .ok (.ireturn, 1) := by decide +kernel
theorem dX2_of_104 : decode cX2_of 104 = .ok (.iload_n 1, 1) := by decide +kernel
theorem dX2_of_105 : decode cX2_of 105 = .ok (.iload_n 2, 1) := by decide +kernel
theorem dX2_of_106 : decode cX2_of 106 = .ok (.if_icmp .le 7, 3) := by decide +kernel
theorem dX2_of_109 : decode cX2_of 109 = .ok (.iconst 1, 1) := by decide +kernel
theorem dX2_of_110 : decode cX2_of 110 = .ok (.goto 4, 3) := by decide +kernel
theorem dX2_of_113 : decode cX2_of 113 = .ok (.iconst 0, 1) := by decide +kernel
theorem dX2_of_114 : decode cX2_of 114 = .ok (.ireturn, 1) := by decide +kernel
theorem dX2_of_115 : decode cX2_of 115 = .ok (.iload_n 1, 1) := by decide +kernel
theorem dX2_of_116 : decode cX2_of 116 = .ok (.iload_n 2, 1) := by decide +kernel
theorem dX2_of_117 : decode cX2_of 117 = .ok (.if_icmp .ne 7, 3) := by decide +kernel
theorem dX2_of_120 : decode cX2_of 120 = .ok (.iconst 1, 1) := by decide +kernel
theorem dX2_of_121 : decode cX2_of 121 = .ok (.goto 4, 3) := by decide +kernel
theorem dX2_of_124 : decode cX2_of 124 = .ok (.iconst 0, 1) := by decide +kernel
theorem dX2_of_125 : decode cX2_of 125 = .ok (.ireturn, 1) := by decide +kernel
theorem dX2_of_126 : decode cX2_of 126 = .ok (.iload_n 1, 1) := by decide +kernel
theorem dX2_of_127 : decode cX2_of 127 = .ok (.iload_n 2, 1) := by decide +kernel
theorem dX2_of_128 : decode cX2_of 128 = .ok (.iadd, 1) := by decide +kernel
theorem dX2_of_129 : decode cX2_of 129 = .ok (.iconst 2, 1) := by decide +kernel
theorem dX2_of_130 : decode cX2_of 130 = .ok (.if_icmp .ne 7, 3) := by decide +kernel
theorem dX2_of_133 : decode cX2_of 133 = .ok (.iconst 1, 1) := by decide +kernel
theorem dX2_of_134 : decode cX2_of 134 = .ok (.goto 4, 3) := by decide +kernel
theorem dX2_of_137 : decode cX2_of 137 = .ok (.iconst 0, 1) := by decide +kernel
theorem dX2_of_138 : decode cX2_of 138 = .ok (.ireturn, 1) := by decide +kernel
theorem dX2_of_139 : decode cX2_of 139 = .ok (.iload_n 1, 1) := by decide +kernel
theorem dX2_of_140 : decode cX2_of 140 = .ok (.iload_n 2, 1) := by decide +kernel
theorem dX2_of_141 : decode cX2_of 141 = .ok (.iadd, 1) := by decide +kernel
theorem dX2_of_142 : decode cX2_of 142 = .ok (.ifCond .le 7, 3) := by decide +kernel
theorem dX2_of_145 : decode cX2_of 145 = .ok (.iconst 1, 1) := by decide +kernel
theorem dX2_of_146 : decode cX2_of 146 = .ok (.goto 4, 3) := by decide +kernel
theorem dX2_of_149 : decode cX2_of 149 = .ok (.iconst 0, 1) := by decide +kernel
theorem dX2_of_150 : decode cX2_of 150 = .ok (.ireturn, 1) := by decide +kernel
set_option maxHeartbeats 4000000 in
theorem met_of (l : Launch) (d a b : Int) (r_d : R32 d) (ha : -1000000 ≤ a ∧ a ≤ 1000000) (hb0 : -1000000 ≤ b ∧ b ≤ 1000000) : SM l yX2_of cX2_of 3 (some .int) (mrm 1) [.int (iI d), .int (iI a), .int (iI b)] (vp_Si (fun r => r = iI (ofS d a b))) := by
  refine s_start (by decide) rfl (Nat.le_of_ble_eq_true rfl) ?_
  intro p e R s m args below meth c ls Q hR hQ hC hml hr hlk hl
  have hx := hC.1
  have hb := hC.2.1
  have hown := hC.2.2.1
  have hts := hC.2.2.2
  have hl : lv_has ls 3 [(0, .int (iI d)), (1, .int (iI a)), (2, .int (iI b))] := hl
  have hmm := mul_bd (A := 1000000) (B := 1000000) ha hb0
  refine lv_iload_n hx hb dX2_of_0 rfl (lv_at hl 0 rfl) ?_
  rcases (show ((d) < 2 ∨ 9 < (d)) ∨ (d) = 2 ∨ (d) = 3 ∨ (d) = 4 ∨ (d) = 5 ∨ (d) = 6 ∨ (d) = 7 ∨ (d) = 8 ∨ (d) = 9 by omega) with hsw | rfl | rfl | rfl | rfl | rfl | rfl | rfl | rfl
  · refine lv_tableOut (tgt := 139) hx hb dX2_of_1 (by rw [iI_toInt (by omega)]; exact hsw) (by decide) ?_
    refine lv_iload_n hx hb dX2_of_139 rfl (lv_at hl 1 rfl) ?_
    refine lv_iload_n hx hb dX2_of_140 rfl (lv_at hl 2 rfl) ?_
    refine r_iadd hx hb dX2_of_141 ?_
    refine r_if_le (tgt := 149) hx hb dX2_of_142 (by decide) (by omega) (fun c1 => ?_) (fun c1 => ?_)
    · refine r_iconst hx hb dX2_of_149 ?_
      exact s_iret hC hr hlk hQ dX2_of_150 (by unfold ofS; repeat rw [if_neg (by omega)])
    · refine r_iconst hx hb dX2_of_145 ?_
      refine lv_goto (tgt := 150) hx hb dX2_of_146 (by decide) ?_
      exact s_iret hC hr hlk hQ dX2_of_150 (by unfold ofS; rw [if_neg (by omega), if_neg (by omega), if_neg (by omega), if_neg (by omega), if_neg (by omega), if_neg (by omega), if_neg (by omega), if_neg (by omega), if_pos (by omega)])
  · refine lv_tableIn (tgt := 48) (off := 47) hx hb dX2_of_1 (by decide) (by decide) (by decide) (by decide) ?_
    refine lv_iload_n hx hb dX2_of_48 rfl (lv_at hl 1 rfl) ?_
    refine r_i2l hx hb dX2_of_49 (by omega) ?_
    refine lv_iload_n hx hb dX2_of_50 rfl (lv_at hl 2 rfl) ?_
    refine r_i2l hx hb dX2_of_51 (by omega) ?_
    refine r_ladd hx hb dX2_of_52 ?_
    refine r_ldc hx hb 1000000 hown (hts _ q1341) (by decide) dX2_of_53 ?_
    refine s_calli (kX2_X2_bounded (rest := []) (as := [.long (iL (a + b)), .int (iI 1000000)]) hx hb hml hown hts (met_bounded l (a + b) 1000000 (by omega) (by decide)) ⟨rfl, rfl⟩ hR (by decide) rfl hl.1 rfl (Nat.le_of_ble_eq_true rfl) dX2_of_55) ?_
    exact s_iret hC hr hlk hQ dX2_of_58 ((ofS_2 a b).symm)
  · refine lv_tableIn (tgt := 59) (off := 58) hx hb dX2_of_1 (by decide) (by decide) (by decide) (by decide) ?_
    refine lv_iload_n hx hb dX2_of_59 rfl (lv_at hl 1 rfl) ?_
    refine r_i2l hx hb dX2_of_60 (by omega) ?_
    refine lv_iload_n hx hb dX2_of_61 rfl (lv_at hl 2 rfl) ?_
    refine r_i2l hx hb dX2_of_62 (by omega) ?_
    refine r_lsub hx hb dX2_of_63 ?_
    refine r_ldc hx hb 1000000 hown (hts _ q1341) (by decide) dX2_of_64 ?_
    refine s_calli (kX2_X2_bounded (rest := []) (as := [.long (iL (a - b)), .int (iI 1000000)]) hx hb hml hown hts (met_bounded l (a - b) 1000000 (by omega) (by decide)) ⟨rfl, rfl⟩ hR (by decide) rfl hl.1 rfl (Nat.le_of_ble_eq_true rfl) dX2_of_66) ?_
    exact s_iret hC hr hlk hQ dX2_of_69 ((ofS_3 a b).symm)
  · refine lv_tableIn (tgt := 70) (off := 69) hx hb dX2_of_1 (by decide) (by decide) (by decide) (by decide) ?_
    refine lv_iload_n hx hb dX2_of_70 rfl (lv_at hl 1 rfl) ?_
    refine r_i2l hx hb dX2_of_71 (by omega) ?_
    refine lv_iload_n hx hb dX2_of_72 rfl (lv_at hl 2 rfl) ?_
    refine r_i2l hx hb dX2_of_73 (by omega) ?_
    refine r_lmul hx hb dX2_of_74 ?_
    refine r_ldc hx hb 1000000 hown (hts _ q1341) (by decide) dX2_of_75 ?_
    refine s_calli (kX2_X2_bounded (rest := []) (as := [.long (iL (a * b)), .int (iI 1000000)]) hx hb hml hown hts (met_bounded l (a * b) 1000000 (by omega) (by decide)) ⟨rfl, rfl⟩ hR (by decide) rfl hl.1 rfl (Nat.le_of_ble_eq_true rfl) dX2_of_77) ?_
    exact s_iret hC hr hlk hQ dX2_of_80 ((ofS_4 a b).symm)
  · refine lv_tableIn (tgt := 81) (off := 80) hx hb dX2_of_1 (by decide) (by decide) (by decide) (by decide) ?_
    refine lv_iload_n hx hb dX2_of_81 rfl (lv_at hl 2 rfl) ?_
    refine r_if_ne (tgt := 89) hx hb dX2_of_82 (by decide) (by omega) (fun c2 => ?_) (fun c2 => ?_)
    · refine lv_iload_n hx hb dX2_of_89 rfl (lv_at hl 1 rfl) ?_
      refine lv_iload_n hx hb dX2_of_90 rfl (lv_at hl 2 rfl) ?_
      refine r_idiv hx hb dX2_of_91 (by omega) (by omega) (by omega) ?_
      exact s_iret hC hr hlk hQ dX2_of_92 (by rw [ofS_5]; first | exact (if_pos (by omega)).symm | exact (if_neg (by omega)).symm)
    · refine r_iconst hx hb dX2_of_85 ?_
      refine lv_goto (tgt := 92) hx hb dX2_of_86 (by decide) ?_
      exact s_iret hC hr hlk hQ dX2_of_92 (by rw [ofS_5]; first | exact (if_pos (by omega)).symm | exact (if_neg (by omega)).symm)
  · refine lv_tableIn (tgt := 93) (off := 92) hx hb dX2_of_1 (by decide) (by decide) (by decide) (by decide) ?_
    refine lv_iload_n hx hb dX2_of_93 rfl (lv_at hl 1 rfl) ?_
    refine lv_iload_n hx hb dX2_of_94 rfl (lv_at hl 2 rfl) ?_
    refine r_icmp_ge (tgt := 102) hx hb dX2_of_95 (by decide) (by omega) (by omega) (fun c3 => ?_) (fun c3 => ?_)
    · refine r_iconst hx hb dX2_of_102 ?_
      exact s_iret hC hr hlk hQ dX2_of_103 (by rw [ofS_6]; first | exact (if_pos (by omega)).symm | exact (if_neg (by omega)).symm)
    · refine r_iconst hx hb dX2_of_98 ?_
      refine lv_goto (tgt := 103) hx hb dX2_of_99 (by decide) ?_
      exact s_iret hC hr hlk hQ dX2_of_103 (by rw [ofS_6]; first | exact (if_pos (by omega)).symm | exact (if_neg (by omega)).symm)
  · refine lv_tableIn (tgt := 104) (off := 103) hx hb dX2_of_1 (by decide) (by decide) (by decide) (by decide) ?_
    refine lv_iload_n hx hb dX2_of_104 rfl (lv_at hl 1 rfl) ?_
    refine lv_iload_n hx hb dX2_of_105 rfl (lv_at hl 2 rfl) ?_
    refine r_icmp_le (tgt := 113) hx hb dX2_of_106 (by decide) (by omega) (by omega) (fun c4 => ?_) (fun c4 => ?_)
    · refine r_iconst hx hb dX2_of_113 ?_
      exact s_iret hC hr hlk hQ dX2_of_114 (by rw [ofS_7]; first | exact (if_pos (by omega)).symm | exact (if_neg (by omega)).symm)
    · refine r_iconst hx hb dX2_of_109 ?_
      refine lv_goto (tgt := 114) hx hb dX2_of_110 (by decide) ?_
      exact s_iret hC hr hlk hQ dX2_of_114 (by rw [ofS_7]; first | exact (if_pos (by omega)).symm | exact (if_neg (by omega)).symm)
  · refine lv_tableIn (tgt := 115) (off := 114) hx hb dX2_of_1 (by decide) (by decide) (by decide) (by decide) ?_
    refine lv_iload_n hx hb dX2_of_115 rfl (lv_at hl 1 rfl) ?_
    refine lv_iload_n hx hb dX2_of_116 rfl (lv_at hl 2 rfl) ?_
    refine r_icmp_ne (tgt := 124) hx hb dX2_of_117 (by decide) (by omega) (by omega) (fun c5 => ?_) (fun c5 => ?_)
    · refine r_iconst hx hb dX2_of_124 ?_
      exact s_iret hC hr hlk hQ dX2_of_125 (by rw [ofS_8]; first | exact (if_pos (by omega)).symm | exact (if_neg (by omega)).symm)
    · refine r_iconst hx hb dX2_of_120 ?_
      refine lv_goto (tgt := 125) hx hb dX2_of_121 (by decide) ?_
      exact s_iret hC hr hlk hQ dX2_of_125 (by rw [ofS_8]; first | exact (if_pos (by omega)).symm | exact (if_neg (by omega)).symm)
  · refine lv_tableIn (tgt := 126) (off := 125) hx hb dX2_of_1 (by decide) (by decide) (by decide) (by decide) ?_
    refine lv_iload_n hx hb dX2_of_126 rfl (lv_at hl 1 rfl) ?_
    refine lv_iload_n hx hb dX2_of_127 rfl (lv_at hl 2 rfl) ?_
    refine r_iadd hx hb dX2_of_128 ?_
    refine r_iconst hx hb dX2_of_129 ?_
    refine r_icmp_ne (tgt := 137) hx hb dX2_of_130 (by decide) (by omega) (by decide) (fun c6 => ?_) (fun c6 => ?_)
    · refine r_iconst hx hb dX2_of_137 ?_
      exact s_iret hC hr hlk hQ dX2_of_138 (by rw [ofS_9]; first | exact (if_pos (by omega)).symm | exact (if_neg (by omega)).symm)
    · refine r_iconst hx hb dX2_of_133 ?_
      refine lv_goto (tgt := 138) hx hb dX2_of_134 (by decide) ?_
      exact s_iret hC hr hlk hQ dX2_of_138 (by rw [ofS_9]; first | exact (if_pos (by omega)).symm | exact (if_neg (by omega)).symm)
theorem dX2_isSo_0 : decode cX2_isSo 0 = .ok (.aload_n 0, 1) := by decide +kernel
theorem dX2_isSo_1 : decode cX2_isSo 1 = .ok (.getfield 151, 3) := by decide +kernel
theorem dX2_isSo_4 : decode cX2_isSo 4 = .ok (.iload_n 1, 1) := by decide +kernel
theorem dX2_isSo_5 : decode cX2_isSo 5 = .ok (.iaload, 1) := by decide +kernel
theorem dX2_isSo_6 : decode cX2_isSo 6 = .ok (.iconst (-1), 1) := by decide +kernel
theorem dX2_isSo_7 : decode cX2_isSo 7 = .ok (.if_icmp .ne 5, 3) := by decide +kernel
theorem dX2_isSo_10 : decode cX2_isSo 10 = .ok (.iconst 1, 1) := by decide +kernel
theorem dX2_isSo_11 : decode cX2_isSo 11 = .ok (.ireturn, 1) := by decide +kernel
theorem dX2_isSo_12 : decode cX2_isSo 12 = .ok (.aload_n 0, 1) := by decide +kernel
theorem dX2_isSo_13 : decode cX2_isSo 13 = .ok (.getfield 164, 3) := by decide +kernel
theorem dX2_isSo_16 : decode cX2_isSo 16 = .ok (.iconst 0, 1) := by decide +kernel
theorem dX2_isSo_17 : decode cX2_isSo 17 = .ok (.aload_n 0, 1) := by decide +kernel
theorem dX2_isSo_18 : decode cX2_isSo 18 = .ok (.getfield 75, 3) := by decide +kernel
theorem dX2_isSo_21 : decode cX2_isSo 21 = .ok (.iload_n 2, 1) := by decide +kernel
theorem dX2_isSo_22 : decode cX2_isSo 22 = .ok (.iaload, 1) := by decide +kernel
theorem dX2_isSo_23 : decode cX2_isSo 23 = .ok (.iastore, 1) := by decide +kernel
theorem dX2_isSo_24 : decode cX2_isSo 24 = .ok (.aload_n 0, 1) := by decide +kernel
theorem dX2_isSo_25 : decode cX2_isSo 25 = .ok (.getfield 164, 3) := by decide +kernel
theorem dX2_isSo_28 : decode cX2_isSo 28 = .ok (.iconst 1, 1) := by decide +kernel
theorem dX2_isSo_29 : decode cX2_isSo 29 = .ok (.aload_n 0, 1) := by decide +kernel
theorem dX2_isSo_30 : decode cX2_isSo 30 = .ok (.getfield 78, 3) := by decide +kernel
theorem dX2_isSo_33 : decode cX2_isSo 33 = .ok (.iload_n 2, 1) := by decide +kernel
theorem dX2_isSo_34 : decode cX2_isSo 34 = .ok (.iaload, 1) := by decide +kernel
theorem dX2_isSo_35 : decode cX2_isSo 35 = .ok (.iastore, 1) := by decide +kernel
theorem dX2_isSo_36 : decode cX2_isSo 36 = .ok (.aload_n 0, 1) := by decide +kernel
theorem dX2_isSo_37 : decode cX2_isSo 37 = .ok (.getfield 164, 3) := by decide +kernel
theorem dX2_isSo_40 : decode cX2_isSo 40 = .ok (.iconst 2, 1) := by decide +kernel
theorem dX2_isSo_41 : decode cX2_isSo 41 = .ok (.iload_n 3, 1) := by decide +kernel
theorem dX2_isSo_42 : decode cX2_isSo 42 = .ok (.iastore, 1) := by decide +kernel
theorem dX2_isSo_43 : decode cX2_isSo 43 = .ok (.aload_n 0, 1) := by decide +kernel
theorem dX2_isSo_44 : decode cX2_isSo 44 = .ok (.getfield 164, 3) := by decide +kernel
theorem dX2_isSo_47 : decode cX2_isSo 47 = .ok (.iconst 3, 1) := by decide +kernel
theorem dX2_isSo_48 : decode cX2_isSo 48 = .ok (.aload_n 0, 1) := by decide +kernel
theorem dX2_isSo_49 : decode cX2_isSo 49 = .ok (.getfield 81, 3) := by decide +kernel
theorem dX2_isSo_52 : decode cX2_isSo 52 = .ok (.iload_n 2, 1) := by decide +kernel
theorem dX2_isSo_53 : decode cX2_isSo 53 = .ok (.iaload, 1) := by decide +kernel
theorem dX2_isSo_54 : decode cX2_isSo 54 = .ok (.iastore, 1) := by decide +kernel
theorem dX2_isSo_55 : decode cX2_isSo 55 = .ok (.aload_n 0, 1) := by decide +kernel
theorem dX2_isSo_56 : decode cX2_isSo 56 = .ok (.getfield 164, 3) := by decide +kernel
theorem dX2_isSo_59 : decode cX2_isSo 59 = .ok (.iconst 4, 1) := by decide +kernel
theorem dX2_isSo_60 : decode cX2_isSo 60 = .ok (.aload_n 0, 1) := by decide +kernel
theorem dX2_isSo_61 : decode cX2_isSo 61 = .ok (.iload_n 3, 1) := by decide +kernel
theorem dX2_isSo_62 : decode cX2_isSo 62 = .ok (.invokevirtual 233, 3) := by decide +kernel
theorem dX2_isSo_65 : decode cX2_isSo 65 = .ok (.iastore, 1) := by decide +kernel
theorem dX2_isSo_66 : decode cX2_isSo 66 = .ok (.aload_n 0, 1) := by decide +kernel
theorem dX2_isSo_67 : decode cX2_isSo 67 = .ok (.getfield 164, 3) := by decide +kernel
theorem dX2_isSo_70 : decode cX2_isSo 70 = .ok (.iconst 5, 1) := by decide +kernel
theorem dX2_isSo_71 : decode cX2_isSo 71 = .ok (.iconst 0, 1) := by decide +kernel
theorem dX2_isSo_72 : decode cX2_isSo 72 = .ok (.iastore, 1) := by decide +kernel
theorem dX2_isSo_73 : decode cX2_isSo 73 = .ok (.aload_n 0, 1) := by decide +kernel
theorem dX2_isSo_74 : decode cX2_isSo 74 = .ok (.getfield 164, 3) := by decide +kernel
theorem dX2_isSo_77 : decode cX2_isSo 77 = .ok (.bipush 6, 2) := by decide +kernel
theorem dX2_isSo_79 : decode cX2_isSo 79 = .ok (.iconst 0, 1) := by decide +kernel
theorem dX2_isSo_80 : decode cX2_isSo 80 = .ok (.iastore, 1) := by decide +kernel
theorem dX2_isSo_81 : decode cX2_isSo 81 = .ok (.iconst 0, 1) := by decide +kernel
theorem dX2_isSo_82 : decode cX2_isSo 82 = .ok (.istore 4, 2) := by decide +kernel
theorem dX2_isSo_84 : decode cX2_isSo 84 = .ok (.iload 4, 2) := by decide +kernel
theorem dX2_isSo_86 : decode cX2_isSo 86 = .ok (.aload_n 0, 1) := by decide +kernel
theorem dX2_isSo_87 : decode cX2_isSo 87 = .ok (.getfield 191, 3) := by decide +kernel
theorem dX2_isSo_90 : decode cX2_isSo 90 = .ok (.if_icmp .ge 38, 3) := by decide +kernel
theorem dX2_isSo_93 : decode cX2_isSo 93 = .ok (.aload_n 0, 1) := by decide +kernel
theorem dX2_isSo_94 : decode cX2_isSo 94 = .ok (.getfield 164, 3) := by decide +kernel
theorem dX2_isSo_97 : decode cX2_isSo 97 = .ok (.iconst 5, 1) := by decide +kernel
theorem dX2_isSo_98 : decode cX2_isSo 98 = .ok (.dup2, 1) := by decide +kernel
theorem dX2_isSo_99 : decode cX2_isSo 99 = .ok (.iaload, 1) := by decide +kernel
theorem dX2_isSo_100 : decode cX2_isSo 100 = .ok (.aload_n 0, 1) := by decide +kernel
theorem dX2_isSo_101 : decode cX2_isSo 101 = .ok (.getfield 90, 3) := by decide +kernel
theorem dX2_isSo_104 : decode cX2_isSo 104 = .ok (.bipush 6, 2) := by decide +kernel
theorem dX2_isSo_106 : decode cX2_isSo 106 = .ok (.iload_n 2, 1) := by decide +kernel
theorem dX2_isSo_107 : decode cX2_isSo 107 = .ok (.imul, 1) := by decide +kernel
theorem dX2_isSo_108 : decode cX2_isSo 108 = .ok (.iload 4, 2) := by decide +kernel
theorem dX2_isSo_110 : decode cX2_isSo 110 = .ok (.iadd, 1) := by decide +kernel
theorem dX2_isSo_111 : decode cX2_isSo 111 = .ok (.baload, 1) := by decide +kernel
theorem dX2_isSo_112 : decode cX2_isSo 112 = .ok (.ifCond .eq 7, 3) := by decide +kernel
theorem dX2_isSo_115 : decode cX2_isSo 115 = .ok (.iconst 1, 1) := by decide +kernel
theorem dX2_isSo_116 : decode cX2_isSo 116 = .ok (.goto 4, 3) := by decide +kernel
theorem dX2_isSo_119 : decode cX2_isSo 119 = .ok (.iconst 0, 1) := by decide +kernel
theorem dX2_isSo_120 : decode cX2_isSo 120 = .ok (.iadd, 1) := by decide +kernel
theorem dX2_isSo_121 : decode cX2_isSo 121 = .ok (.iastore, 1) := by decide +kernel
theorem dX2_isSo_122 : decode cX2_isSo 122 = .ok (.iinc 4 1, 3) := by decide +kernel
theorem dX2_isSo_125 : decode cX2_isSo 125 = .ok (.goto (-41), 3) := by decide +kernel
theorem dX2_isSo_128 : decode cX2_isSo 128 = .ok (.iconst 0, 1) := by decide +kernel
theorem dX2_isSo_129 : decode cX2_isSo 129 = .ok (.istore 4, 2) := by decide +kernel
theorem dX2_isSo_131 : decode cX2_isSo 131 = .ok (.iload 4, 2) := by decide +kernel
theorem dX2_isSo_133 : decode cX2_isSo 133 = .ok (.aload_n 0, 1) := by decide +kernel
theorem dX2_isSo_134 : decode cX2_isSo 134 = .ok (.getfield 181, 3) := by decide +kernel
theorem dX2_isSo_137 : decode cX2_isSo 137 = .ok (.if_icmp .ge 56, 3) := by decide +kernel
theorem dX2_isSo_140 : decode cX2_isSo 140 = .ok (.aload_n 0, 1) := by decide +kernel
theorem dX2_isSo_141 : decode cX2_isSo 141 = .ok (.getfield 164, 3) := by decide +kernel
theorem dX2_isSo_144 : decode cX2_isSo 144 = .ok (.bipush 6, 2) := by decide +kernel
theorem dX2_isSo_146 : decode cX2_isSo 146 = .ok (.dup2, 1) := by decide +kernel
theorem dX2_isSo_147 : decode cX2_isSo 147 = .ok (.iaload, 1) := by decide +kernel
theorem dX2_isSo_148 : decode cX2_isSo 148 = .ok (.aload_n 0, 1) := by decide +kernel
theorem dX2_isSo_149 : decode cX2_isSo 149 = .ok (.getfield 31, 3) := by decide +kernel
theorem dX2_isSo_152 : decode cX2_isSo 152 = .ok (.iload 4, 2) := by decide +kernel
theorem dX2_isSo_154 : decode cX2_isSo 154 = .ok (.baload, 1) := by decide +kernel
theorem dX2_isSo_155 : decode cX2_isSo 155 = .ok (.ifCond .ne 29, 3) := by decide +kernel
theorem dX2_isSo_158 : decode cX2_isSo 158 = .ok (.aload_n 0, 1) := by decide +kernel
theorem dX2_isSo_159 : decode cX2_isSo 159 = .ok (.getfield 72, 3) := by decide +kernel
theorem dX2_isSo_162 : decode cX2_isSo 162 = .ok (.bipush 12, 2) := by decide +kernel
theorem dX2_isSo_164 : decode cX2_isSo 164 = .ok (.iload_n 2, 1) := by decide +kernel
theorem dX2_isSo_165 : decode cX2_isSo 165 = .ok (.imul, 1) := by decide +kernel
theorem dX2_isSo_166 : decode cX2_isSo 166 = .ok (.iload 4, 2) := by decide +kernel
theorem dX2_isSo_168 : decode cX2_isSo 168 = .ok (.iadd, 1) := by decide +kernel
theorem dX2_isSo_169 : decode cX2_isSo 169 = .ok (.iaload, 1) := by decide +kernel
theorem dX2_isSo_170 : decode cX2_isSo 170 = .ok (.aload_n 0, 1) := by decide +kernel
theorem dX2_isSo_171 : decode cX2_isSo 171 = .ok (.getfield 22, 3) := by decide +kernel
theorem dX2_isSo_174 : decode cX2_isSo 174 = .ok (.iload 4, 2) := by decide +kernel
theorem dX2_isSo_176 : decode cX2_isSo 176 = .ok (.iaload, 1) := by decide +kernel
theorem dX2_isSo_177 : decode cX2_isSo 177 = .ok (.if_icmp .eq 7, 3) := by decide +kernel
theorem dX2_isSo_180 : decode cX2_isSo 180 = .ok (.iconst 1, 1) := by decide +kernel
theorem dX2_isSo_181 : decode cX2_isSo 181 = .ok (.goto 4, 3) := by decide +kernel
theorem dX2_isSo_184 : decode cX2_isSo 184 = .ok (.iconst 0, 1) := by decide +kernel
theorem dX2_isSo_185 : decode cX2_isSo 185 = .ok (.iadd, 1) := by decide +kernel
theorem dX2_isSo_186 : decode cX2_isSo 186 = .ok (.iastore, 1) := by decide +kernel
theorem dX2_isSo_187 : decode cX2_isSo 187 = .ok (.iinc 4 1, 3) := by decide +kernel
theorem dX2_isSo_190 : decode cX2_isSo 190 = .ok (.goto (-59), 3) := by decide +kernel
theorem dX2_isSo_193 : decode cX2_isSo 193 = .ok (.iconst 0, 1) := by decide +kernel
theorem dX2_isSo_194 : decode cX2_isSo 194 = .ok (.istore 4, 2) := by decide +kernel
theorem dX2_isSo_196 : decode cX2_isSo 196 = .ok (.aload_n 0, 1) := by decide +kernel
theorem dX2_isSo_197 : decode cX2_isSo 197 = .ok (.getfield 151, 3) := by decide +kernel
theorem dX2_isSo_200 : decode cX2_isSo 200 = .ok (.iload_n 1, 1) := by decide +kernel
theorem dX2_isSo_201 : decode cX2_isSo 201 = .ok (.iaload, 1) := by decide +kernel
theorem dX2_isSo_202 : decode cX2_isSo 202 = .ok (.istore 5, 2) := by decide +kernel
theorem dX2_isSo_204 : decode cX2_isSo 204 = .ok (.iload 5, 2) := by decide +kernel
theorem dX2_isSo_206 : decode cX2_isSo 206 = .ok (.aload_n 0, 1) := by decide +kernel
theorem dX2_isSo_207 : decode cX2_isSo 207 = .ok (.getfield 154, 3) := by decide +kernel
theorem dX2_isSo_210 : decode cX2_isSo 210 = .ok (.iload_n 1, 1) := by decide +kernel
theorem dX2_isSo_211 : decode cX2_isSo 211 = .ok (.iaload, 1) := by decide +kernel
theorem dX2_isSo_212 : decode cX2_isSo 212 = .ok (.if_icmp .ge 127, 3) := by decide +kernel
theorem dX2_isSo_215 : decode cX2_isSo 215 = .ok (.aload_n 0, 1) := by decide +kernel
theorem dX2_isSo_216 : decode cX2_isSo 216 = .ok (.getfield 145, 3) := by decide +kernel
theorem dX2_isSo_219 : decode cX2_isSo 219 = .ok (.iload 5, 2) := by decide +kernel
theorem dX2_isSo_221 : decode cX2_isSo 221 = .ok (.iaload, 1) := by decide +kernel
theorem dX2_isSo_222 : decode cX2_isSo 222 = .ok (.istore 6, 2) := by decide +kernel
theorem dX2_isSo_224 : decode cX2_isSo 224 = .ok (.iload 6, 2) := by decide +kernel
theorem dX2_isSo_226 : decode cX2_isSo 226 = .ok (.iconst 1, 1) := by decide +kernel
theorem dX2_isSo_227 : decode cX2_isSo 227 = .ok (.if_icmp .gt 43, 3) := by decide +kernel
theorem dX2_isSo_230 : decode cX2_isSo 230 = .ok (.aload_n 0, 1) := by decide +kernel
theorem dX2_isSo_231 : decode cX2_isSo 231 = .ok (.getfield 167, 3) := by decide +kernel
theorem dX2_isSo_234 : decode cX2_isSo 234 = .ok (.iload 4, 2) := by decide +kernel
theorem dX2_isSo_236 : decode cX2_isSo 236 = .ok (.iload 6, 2) := by decide +kernel
theorem dX2_isSo_238 : decode cX2_isSo 238 = .ok (.ifCond .ne 13, 3) := by decide +kernel
theorem dX2_isSo_241 : decode cX2_isSo 241 = .ok (.aload_n 0, 1) := by decide +kernel
theorem dX2_isSo_242 : decode cX2_isSo 242 = .ok (.getfield 148, 3) := by decide +kernel
theorem dX2_isSo_245 : decode cX2_isSo 245 = .ok (.iload 5, 2) := by decide +kernel
theorem dX2_isSo_247 : decode cX2_isSo 247 = .ok (.iaload, 1) := by decide +kernel
theorem dX2_isSo_248 : decode cX2_isSo 248 = .ok (.goto 15, 3) := by decide +kernel
theorem dX2_isSo_251 : decode cX2_isSo 251 = .ok (.aload_n 0, 1) := by decide +kernel
theorem dX2_isSo_252 : decode cX2_isSo 252 = .ok (.getfield 164, 3) := by decide +kernel
theorem dX2_isSo_255 : decode cX2_isSo 255 = .ok (.aload_n 0, 1) := by decide +kernel
theorem dX2_isSo_256 : decode cX2_isSo 256 = .ok (.getfield 148, 3) := by decide +kernel
theorem dX2_isSo_259 : decode cX2_isSo 259 = .ok (.iload 5, 2) := by decide +kernel
theorem dX2_isSo_261 : decode cX2_isSo 261 = .ok (.iaload, 1) := by decide +kernel
theorem dX2_isSo_262 : decode cX2_isSo 262 = .ok (.iaload, 1) := by decide +kernel
theorem dX2_isSo_263 : decode cX2_isSo 263 = .ok (.iastore, 1) := by decide +kernel
theorem dX2_isSo_264 : decode cX2_isSo 264 = .ok (.iinc 4 1, 3) := by decide +kernel
theorem dX2_isSo_267 : decode cX2_isSo 267 = .ok (.goto 66, 3) := by decide +kernel
theorem dX2_isSo_270 : decode cX2_isSo 270 = .ok (.iload 6, 2) := by decide +kernel
theorem dX2_isSo_272 : decode cX2_isSo 272 = .ok (.bipush 11, 2) := by decide +kernel
theorem dX2_isSo_274 : decode cX2_isSo 274 = .ok (.if_icmp .ne 26, 3) := by decide +kernel
theorem dX2_isSo_277 : decode cX2_isSo 277 = .ok (.aload_n 0, 1) := by decide +kernel
theorem dX2_isSo_278 : decode cX2_isSo 278 = .ok (.getfield 167, 3) := by decide +kernel
theorem dX2_isSo_281 : decode cX2_isSo 281 = .ok (.iload 4, 2) := by decide +kernel
theorem dX2_isSo_283 : decode cX2_isSo 283 = .ok (.iconst 1, 1) := by decide +kernel
theorem dX2_isSo_284 : decode cX2_isSo 284 = .ok (.isub, 1) := by decide +kernel
theorem dX2_isSo_285 : decode cX2_isSo 285 = .ok (.iconst 1, 1) := by decide +kernel
theorem dX2_isSo_286 : decode cX2_isSo 286 = .ok (.aload_n 0, 1) := by decide +kernel
theorem dX2_isSo_287 : decode cX2_isSo 287 = .ok (.getfield 167, 3) := by decide +kernel
theorem dX2_isSo_290 : decode cX2_isSo 290 = .ok (.iload 4, 2) := by decide +kernel
theorem dX2_isSo_292 : decode cX2_isSo 292 = .ok (.iconst 1, 1) := by decide +kernel
theorem dX2_isSo_293 : decode cX2_isSo 293 = .ok (.isub, 1) := by decide +kernel
theorem dX2_isSo_294 : decode cX2_isSo 294 = .ok (.iaload, 1) := by decide +kernel
theorem dX2_isSo_295 : decode cX2_isSo 295 = .ok (.isub, 1) := by decide +kernel
theorem dX2_isSo_296 : decode cX2_isSo 296 = .ok (.iastore, 1) := by decide +kernel
theorem dX2_isSo_297 : decode cX2_isSo 297 = .ok (.goto 36, 3) := by decide +kernel
theorem dX2_isSo_300 : decode cX2_isSo 300 = .ok (.iinc 4 (-1), 3) := by decide +kernel
theorem dX2_isSo_303 : decode cX2_isSo 303 = .ok (.aload_n 0, 1) := by decide +kernel
theorem dX2_isSo_304 : decode cX2_isSo 304 = .ok (.getfield 167, 3) := by decide +kernel
theorem dX2_isSo_307 : decode cX2_isSo 307 = .ok (.iload 4, 2) := by decide +kernel
theorem dX2_isSo_309 : decode cX2_isSo 309 = .ok (.iconst 1, 1) := by decide +kernel
theorem dX2_isSo_310 : decode cX2_isSo 310 = .ok (.isub, 1) := by decide +kernel
theorem dX2_isSo_311 : decode cX2_isSo 311 = .ok (.iload 6, 2) := by decide +kernel
theorem dX2_isSo_313 : decode cX2_isSo 313 = .ok (.aload_n 0, 1) := by decide +kernel
theorem dX2_isSo_314 : decode cX2_isSo 314 = .ok (.getfield 167, 3) := by decide +kernel
theorem dX2_isSo_317 : decode cX2_isSo 317 = .ok (.iload 4, 2) := by decide +kernel
theorem dX2_isSo_319 : decode cX2_isSo 319 = .ok (.iconst 1, 1) := by decide +kernel
theorem dX2_isSo_320 : decode cX2_isSo 320 = .ok (.isub, 1) := by decide +kernel
theorem dX2_isSo_321 : decode cX2_isSo 321 = .ok (.iaload, 1) := by decide +kernel
theorem dX2_isSo_322 : decode cX2_isSo 322 = .ok (.aload_n 0, 1) := by decide +kernel
theorem dX2_isSo_323 : decode cX2_isSo 323 = .ok (.getfield 167, 3) := by decide +kernel
theorem dX2_isSo_326 : decode cX2_isSo 326 = .ok (.iload 4, 2) := by decide +kernel
theorem dX2_isSo_328 : decode cX2_isSo 328 = .ok (.iaload, 1) := by decide +kernel
theorem dX2_isSo_329 : decode cX2_isSo 329 = .ok (.invokestatic 358, 3) := by decide +kernel
theorem dX2_isSo_332 : decode cX2_isSo 332 = .ok (.iastore, 1) := by decide +kernel
theorem dX2_isSo_333 : decode cX2_isSo 333 = .ok (.iinc 5 1, 3) := by decide +kernel
theorem dX2_isSo_336 : decode cX2_isSo 336 = .ok (.goto (-132), 3) := by decide +kernel
theorem dX2_isSo_339 : decode cX2_isSo 339 = .ok (.aload_n 0, 1) := by decide +kernel
theorem dX2_isSo_340 : decode cX2_isSo 340 = .ok (.getfield 167, 3) := by decide +kernel
theorem dX2_isSo_343 : decode cX2_isSo 343 = .ok (.iconst 0, 1) := by decide +kernel
theorem dX2_isSo_344 : decode cX2_isSo 344 = .ok (.iaload, 1) := by decide +kernel
theorem dX2_isSo_345 : decode cX2_isSo 345 = .ok (.ifCond .eq 7, 3) := by decide +kernel
theorem dX2_isSo_348 : decode cX2_isSo 348 = .ok (.iconst 1, 1) := by decide +kernel
theorem dX2_isSo_349 : decode cX2_isSo 349 = .ok (.goto 4, 3) := by decide +kernel
theorem dX2_isSo_352 : decode cX2_isSo 352 = .ok (.iconst 0, 1) := by decide +kernel
theorem dX2_isSo_353 : decode cX2_isSo 353 = .ok (.ireturn, 1) := by decide +kernel
set_option maxHeartbeats 4000000 in
theorem met_isSo (l : Launch) (D : va_G) (E : Nat → ClassId) (A : Nat → Prop) (h : Nat) (ad : Nat → Nat) (I : Nat → Int) (F : Nat → Int → Int) (ci lot t sl sp si : Int) (wet pl : Int → Int) (hc : 0 ≤ ci ∧ ci ≤ 1) (hlot : 0 ≤ lot ∧ lot ≤ 1) (ht : 0 ≤ t ∧ t ≤ 1000) (e28 : F 28 lot = sl) (e29 : F 29 lot = sp) (e30 : F 30 lot = si) (e33 : ∀ w, 0 ≤ w → w < 6 → F 33 (6 * lot + w) = wet w) (e27 : ∀ w, 0 ≤ w → w < 12 → F 27 (12 * lot + w) = pl w) (b28 : -80 ≤ sl ∧ sl ≤ 80) (b29 : -30 ≤ sp ∧ sp ≤ 30) (b30 : 0 ≤ si ∧ si ≤ 100000) (gp0 : Bd pl 12 (-19) 19) (gw0 : Bd wet 6 0 1) (gs0 : gSea I F) (gl0 : gLoad I F) (gm0 : gMark I F) (gr0 : gRule F) : MM l yX2_isSo cX2_isSo 7 (some .boolean) (mrm 2) D E A h ad [.int (iI ci), .int (iI lot), .int (iI t)] I F (MQi D E A h ad (fun z I1 F1 => soZ F ci (nmS I F sl sp t si wet pl) = z ∧ I = I1 ∧ ∃ g g1, va_up (va_up F 71 g) 72 g1 = F1)) := by
  refine m_start (by decide) rfl (Nat.le_of_ble_eq_true rfl) ?_
  intro p e R s m args below meth c ls Q hR hQ hC hml hr hlk hM hS hl
  have hx := hC.1
  have hb := hC.2.1
  have hown := hC.2.2.1
  have hts := hC.2.2.2.1
  have hl : lv_has ls 7 [(0, .ref h), (1, .int (iI ci)), (2, .int (iI lot)), (3, .int (iI t))] := hl
  obtain ⟨i4, a5, a6, a7, a8, a9, i10, a11, a12, a13, a14, a14h⟩ := id gl0
  obtain ⟨i15, a16, a17⟩ := id gm0
  have hrb : -1 ≤ F 64 ci ∧ F 64 ci ≤ 300 := by rcases gr0 ci hc.1 hc.2 with q | ⟨q, -⟩ <;> omega
  have hnb := nmS_bd (wet := wet) (pl := pl) b28 b29 ht b30 gs0 i15 i4
  refine lv_aload_n hx hb dX2_isSo_0 rfl (lv_at hl 0 rfl) ?_
  refine mg_64 hC hM dX2_isSo_1 ?_
  refine lv_iload_n hx hb dX2_isSo_4 rfl (lv_at hl 1 rfl) ?_
  refine ml_64 (v := F 64 ci) hC hM (by omega) rfl dX2_isSo_5 ?_
  refine r_iconst hx hb dX2_isSo_6 ?_
  refine r_icmp_ne (tgt := 12) hx hb dX2_isSo_7 (by decide) (by omega) (by decide) (fun cb => ?_) (fun cb => ?_)
  · obtain ⟨hr0, hok⟩ := (gr0 ci hc.1 hc.2).resolve_left cb
    have hM : MW D E A h ad I (va_up F 71 (F 71)) s.heap := by rw [up_self]; exact hM
    refine lv_aload_n hx hb dX2_isSo_12 rfl (lv_at hl 0 rfl) ?_
    refine mg_71 hC hM dX2_isSo_13 ?_
    refine r_iconst hx hb dX2_isSo_16 ?_
    refine lv_aload_n hx hb dX2_isSo_17 rfl (lv_at hl 0 rfl) ?_
    refine mg_28 hC hM dX2_isSo_18 ?_
    refine lv_iload_n hx hb dX2_isSo_21 rfl (lv_at hl 2 rfl) ?_
    refine ml_28 (v := sl) hC hM (by omega) e28 dX2_isSo_22 ?_
    refine ms_71 (v := sl) hC hM hS (by decide) dX2_isSo_23 (fun H locs hM hS => ?_)
    rw [upF_up] at hM
    refine lv_aload_n hx hb dX2_isSo_24 rfl (lv_at hl 0 rfl) ?_
    refine mg_71 hC hM dX2_isSo_25 ?_
    refine r_iconst hx hb dX2_isSo_28 ?_
    refine lv_aload_n hx hb dX2_isSo_29 rfl (lv_at hl 0 rfl) ?_
    refine mg_29 hC hM dX2_isSo_30 ?_
    refine lv_iload_n hx hb dX2_isSo_33 rfl (lv_at hl 2 rfl) ?_
    refine ml_29 (v := sp) hC hM (by omega) e29 dX2_isSo_34 ?_
    refine ms_71 (v := sp) hC hM hS (by decide) dX2_isSo_35 (fun H locs hM hS => ?_)
    rw [upF_up] at hM
    refine lv_aload_n hx hb dX2_isSo_36 rfl (lv_at hl 0 rfl) ?_
    refine mg_71 hC hM dX2_isSo_37 ?_
    refine r_iconst hx hb dX2_isSo_40 ?_
    refine lv_iload_n hx hb dX2_isSo_41 rfl (lv_at hl 3 rfl) ?_
    refine ms_71 (v := t) hC hM hS (by decide) dX2_isSo_42 (fun H locs hM hS => ?_)
    rw [upF_up] at hM
    refine lv_aload_n hx hb dX2_isSo_43 rfl (lv_at hl 0 rfl) ?_
    refine mg_71 hC hM dX2_isSo_44 ?_
    refine r_iconst hx hb dX2_isSo_47 ?_
    refine lv_aload_n hx hb dX2_isSo_48 rfl (lv_at hl 0 rfl) ?_
    refine mg_30 hC hM dX2_isSo_49 ?_
    refine lv_iload_n hx hb dX2_isSo_52 rfl (lv_at hl 2 rfl) ?_
    refine ml_30 (v := si) hC hM (by omega) e30 dX2_isSo_53 ?_
    refine ms_71 (v := si) hC hM hS (by decide) dX2_isSo_54 (fun H locs hM hS => ?_)
    rw [upF_up] at hM
    refine lv_aload_n hx hb dX2_isSo_55 rfl (lv_at hl 0 rfl) ?_
    refine mg_71 hC hM dX2_isSo_56 ?_
    refine r_iconst hx hb dX2_isSo_59 ?_
    refine lv_aload_n hx hb dX2_isSo_60 rfl (lv_at hl 0 rfl) ?_
    refine lv_iload_n hx hb dX2_isSo_61 rfl (lv_at hl 3 rfl) ?_
    refine m_calli (kX2_seaIn (rest := [.int (iI 4), .ref (ad 71)]) (as := [.int (iI t)]) hC hml (met_seaIn l D E A h ad I (va_up F 71 (updZ (updZ (updZ (updZ (F 71) 0 sl) 1 sp) 2 t) 3 si)) t (by omega) gs0) ⟨rfl, rfl⟩ hR (by decide) hM rfl hl.1 rfl (Nat.le_of_ble_eq_true rfl) dX2_isSo_62) hS (fun z1 I2 F3 H locs hp4 hM hS => ?_)
    obtain ⟨rfl, rfl, rfl⟩ := hp4
    refine W.eq (g2 := F0 m 65 ls [.int (iI (seaS (I 18) (F 19) (F 20) (F 21) t)), .int (iI 4), .ref (ad 71)]) rfl ?_
    refine ms_71 (v := seaS (I 18) (F 19) (F 20) (F 21) t) hC hM hS (by decide) dX2_isSo_65 (fun H locs hM hS => ?_)
    rw [upF_up] at hM
    refine lv_aload_n hx hb dX2_isSo_66 rfl (lv_at hl 0 rfl) ?_
    refine mg_71 hC hM dX2_isSo_67 ?_
    refine r_iconst hx hb dX2_isSo_70 ?_
    refine r_iconst hx hb dX2_isSo_71 ?_
    refine ms_71 (v := 0) hC hM hS (by decide) dX2_isSo_72 (fun H locs hM hS => ?_)
    rw [upF_up] at hM
    refine lv_aload_n hx hb dX2_isSo_73 rfl (lv_at hl 0 rfl) ?_
    refine mg_71 hC hM dX2_isSo_74 ?_
    refine r_bipush hx hb dX2_isSo_77 (by decide) ?_
    refine r_iconst hx hb dX2_isSo_79 ?_
    refine ms_71 (v := 0) hC hM hS (by decide) dX2_isSo_80 (fun H locs hM hS => ?_)
    rw [upF_up] at hM
    refine r_iconst hx hb dX2_isSo_81 ?_
    refine lv_istore (lv' := [(4, .int (iI 0)), (0, .ref h), (1, .int (iI ci)), (2, .int (iI lot)), (3, .int (iI t))]) hx hb dX2_isSo_82 hl (by decide) rfl (fun ls hl => ?_)
    have loop84_5 : ∀ (n : Nat) (k : Int) (F1 : Nat → Int → Int), I 15 - k < (n : Int) → 0 ≤ k → k ≤ I 15 → (∃ g, F1 = va_up F 71 g ∧ (g 0 = sl ∧ g 1 = sp ∧ g 2 = t ∧ g 3 = si ∧ g 4 = seaS (I 18) (F 19) (F 20) (F 21) t) ∧ g 5 = sm (fun m => if wet m = 0 then 0 else 1) k ∧ g 6 = 0) → ∀ (H : Heap) (locs : List Loc) (ls : Array Slot), MW D E A h ad I F1 H → va_S A s.heap H locs → lv_has ls 7 [(4, .int (iI k)), (0, .ref h), (1, .int (iI ci)), (2, .int (iI lot)), (3, .int (iI t))] → W p l e R s m args below meth c H locs 0 0 Q (F0 m 84 ls []) := by
      intro n
      induction n with
      | zero => intro k F1 hn7 hk0 hk1 eF; exfalso; omega
      | succ n ih6 =>
        intro k F1 hn7 hk0 hk1 eF H locs ls hM hS hl
        obtain ⟨g, rfl, ⟨g0, g1, g2, g3, g4⟩, g5, g6⟩ := eF
        refine lv_iload hx hb dX2_isSo_84 (lv_at hl 0 rfl) ?_
        refine lv_aload_n hx hb dX2_isSo_86 rfl (lv_at hl 1 rfl) ?_
        refine mg_15 (v := I 15) hC hM rfl dX2_isSo_87 ?_
        refine r_icmp_ge (tgt := 128) hx hb dX2_isSo_90 (by decide) (by omega) (by omega) (fun c8 => ?_) (fun c8 => ?_)
        · have ek : k = I 15 := by omega
          refine r_iconst hx hb dX2_isSo_128 ?_
          refine lv_istore (lv' := [(4, .int (iI 0)), (0, .ref h), (1, .int (iI ci)), (2, .int (iI lot)), (3, .int (iI t))]) hx hb dX2_isSo_129 hl (by decide) rfl (fun ls hl => ?_)
          have loop131_9 : ∀ (n : Nat) (j : Int) (F1 : Nat → Int → Int), I 4 - j < (n : Int) → 0 ≤ j → j ≤ I 4 → (∃ g, F1 = va_up F 71 g ∧ (g 0 = sl ∧ g 1 = sp ∧ g 2 = t ∧ g 3 = si ∧ g 4 = seaS (I 18) (F 19) (F 20) (F 21) t) ∧ g 5 = sm (fun m => if wet m = 0 then 0 else 1) (I 15) ∧ g 6 = sm (fun w => if F 9 w = 0 ∧ pl w ≠ F 6 w then 1 else 0) j) → ∀ (H : Heap) (locs : List Loc) (ls : Array Slot), MW D E A h ad I F1 H → va_S A s.heap H locs → lv_has ls 7 [(4, .int (iI j)), (0, .ref h), (1, .int (iI ci)), (2, .int (iI lot)), (3, .int (iI t))] → W p l e R s m args below meth c H locs 0 0 Q (F0 m 131 ls []) := by
            intro n
            induction n with
            | zero => intro j F1 hn11 hj0 hj1 eF; exfalso; omega
            | succ n ih10 =>
              intro j F1 hn11 hj0 hj1 eF H locs ls hM hS hl
              obtain ⟨g, rfl, ⟨g0, g1, g2, g3, g4⟩, g5, g6⟩ := eF
              refine lv_iload hx hb dX2_isSo_131 (lv_at hl 0 rfl) ?_
              refine lv_aload_n hx hb dX2_isSo_133 rfl (lv_at hl 1 rfl) ?_
              refine mg_4 (v := I 4) hC hM rfl dX2_isSo_134 ?_
              refine r_icmp_ge (tgt := 193) hx hb dX2_isSo_137 (by decide) (by omega) (by omega) (fun c12 => ?_) (fun c12 => ?_)
              · have ej : j = I 4 := by omega
                have hgn : ∀ i, 0 ≤ i → i ≤ 6 → g i = nmS I F sl sp t si wet pl i := by
                  intro i i0 i1
                  rcases (show i = 0 ∨ i = 1 ∨ i = 2 ∨ i = 3 ∨ i = 4 ∨ i = 5 ∨ i = 6 by omega) with rfl | rfl | rfl | rfl | rfl | rfl | rfl
                  · exact g0
                  · exact g1
                  · exact g2
                  · exact g3
                  · exact g4
                  · exact g5
                  · rw [g6, ej]; rfl
                have hM : MW D E A h ad I (va_up (va_up F 71 g) 72 (F 72)) H := by rw [show va_up (va_up F 71 g) 72 (F 72) = va_up F 71 g from up_self (va_up F 71 g) 72]; exact hM
                refine r_iconst hx hb dX2_isSo_193 ?_
                refine lv_istore (lv' := [(4, .int (iI 0)), (0, .ref h), (1, .int (iI ci)), (2, .int (iI lot)), (3, .int (iI t))]) hx hb dX2_isSo_194 hl (by decide) rfl (fun ls hl => ?_)
                refine lv_aload_n hx hb dX2_isSo_196 rfl (lv_at hl 1 rfl) ?_
                refine mg_64 hC hM dX2_isSo_197 ?_
                refine lv_iload_n hx hb dX2_isSo_200 rfl (lv_at hl 2 rfl) ?_
                refine ml_64 (v := F 64 ci) hC hM (by omega) rfl dX2_isSo_201 ?_
                refine lv_istore (lv' := [(5, .int (iI (F 64 ci))), (4, .int (iI 0)), (0, .ref h), (1, .int (iI ci)), (2, .int (iI lot)), (3, .int (iI t))]) hx hb dX2_isSo_202 hl (by decide) rfl (fun ls hl => ?_)
                have loop204_13 : ∀ (n : Nat) (top k : Int) (F1 : Nat → Int → Int), F 65 ci - k < (n : Int) → F 64 ci ≤ k → k ≤ F 65 ci → 0 ≤ top → (∃ q1 hp tp, F1 = va_up (va_up F 71 g) 72 q1 ∧ okM (F 62) (F 63) (F 65 ci - k).toNat k tp top ∧ okH hp tp top ∧ eqH q1 hp top ∧ runH (F 62) (F 63) (nmS I F sl sp t si wet pl) (F 65 ci - k).toNat k hp top = runH (F 62) (F 63) (nmS I F sl sp t si wet pl) (F 65 ci - F 64 ci).toNat (F 64 ci) (fun _ => 0) 0) → ∀ (H : Heap) (locs : List Loc) (ls : Array Slot), MW D E A h ad I F1 H → va_S A s.heap H locs → lv_has ls 7 [(5, .int (iI k)), (4, .int (iI top)), (0, .ref h), (1, .int (iI ci)), (2, .int (iI lot)), (3, .int (iI t))] → W p l e R s m args below meth c H locs 0 0 Q (F0 m 204 ls []) := by
                  intro n
                  induction n with
                  | zero => intro top k F1 hn15 hk0 hk1 ht0 eF; exfalso; omega
                  | succ n ih14 =>
                    intro top k F1 hn15 hk0 hk1 ht0 eF H locs ls hM hS hl
                    obtain ⟨q1, hp, tp, rfl, hok, hoh, heq, hrun⟩ := eF
                    refine lv_iload hx hb dX2_isSo_204 (lv_at hl 0 rfl) ?_
                    refine lv_aload_n hx hb dX2_isSo_206 rfl (lv_at hl 2 rfl) ?_
                    refine mg_65 hC hM dX2_isSo_207 ?_
                    refine lv_iload_n hx hb dX2_isSo_210 rfl (lv_at hl 3 rfl) ?_
                    refine ml_65 (v := F 65 ci) hC hM (by omega) rfl dX2_isSo_211 ?_
                    refine r_icmp_ge (tgt := 339) hx hb dX2_isSo_212 (by decide) (by omega) (by omega) (fun c16 => ?_) (fun c16 => ?_)
                    · rw [show (F 65 ci - k).toNat = 0 by omega] at hok hrun
                      obtain ⟨ht1, htp⟩ := hok
                      subst ht1
                      have h01 := hoh 0 (by decide) (by decide)
                      have hq0 : q1 0 = hp 0 := heq 0 (by decide) (by decide)
                      have hrun : hp = _ := hrun
                      refine lv_aload_n hx hb dX2_isSo_339 rfl (lv_at hl 2 rfl) ?_
                      refine mg_72 hC hM dX2_isSo_340 ?_
                      refine r_iconst hx hb dX2_isSo_343 ?_
                      refine ml_72 (v := q1 0) hC hM (by decide) rfl dX2_isSo_344 ?_
                      refine r_if_eq (tgt := 352) hx hb dX2_isSo_345 (by decide) (by omega) (fun cz => ?_) (fun cz => ?_)
                      · refine r_iconst hx hb dX2_isSo_352 ?_
                        exact m_zret hC hQ hr hlk hM hS (by decide) dX2_isSo_353 (⟨by unfold soZ; rw [if_neg cb, ← hrun, ← hq0, if_pos cz], rfl, ⟨_, _, rfl⟩⟩)
                      · refine r_iconst hx hb dX2_isSo_348 ?_
                        refine lv_goto (tgt := 353) hx hb dX2_isSo_349 (by decide) ?_
                        exact m_zret hC hQ hr hlk hM hS (by decide) dX2_isSo_353 (⟨by unfold soZ; rw [if_neg cb, ← hrun, ← hq0, if_neg cz], rfl, ⟨_, _, rfl⟩⟩)
                    · rw [show (F 65 ci - k).toNat = (F 65 ci - (k + 1)).toNat + 1 by omega] at hok hrun
                      have hd := okM_d hok
                      obtain ⟨tp1, hok1, hoh1⟩ := okM_s hok hoh hnb
                      have heq1 := eqH_s (d := F 62 k) (w := F 63 k) (nm := nmS I F sl sp t si wet pl) heq hd.2.1.1 (by omega)
                      refine lv_aload_n hx hb dX2_isSo_215 rfl (lv_at hl 2 rfl) ?_
                      refine mg_62 hC hM dX2_isSo_216 ?_
                      refine lv_iload hx hb dX2_isSo_219 (lv_at hl 0 rfl) ?_
                      refine ml_62 (v := F 62 k) hC hM (by omega) rfl dX2_isSo_221 ?_
                      refine lv_istore (lv' := [(6, .int (iI (F 62 k))), (5, .int (iI k)), (4, .int (iI top)), (0, .ref h), (1, .int (iI ci)), (2, .int (iI lot)), (3, .int (iI t))]) hx hb dX2_isSo_222 hl (by decide) rfl (fun ls hl => ?_)
                      refine lv_iload hx hb dX2_isSo_224 (lv_at hl 0 rfl) ?_
                      refine r_iconst hx hb dX2_isSo_226 ?_
                      refine r_icmp_gt (tgt := 270) hx hb dX2_isSo_227 (by decide) (by omega) (by decide) (fun c17 => ?_) (fun c17 => ?_)
                      · refine lv_iload hx hb dX2_isSo_270 (lv_at hl 0 rfl) ?_
                        refine r_bipush hx hb dX2_isSo_272 (by decide) ?_
                        refine r_icmp_ne (tgt := 300) hx hb dX2_isSo_274 (by decide) (by omega) (by decide) (fun c18 => ?_) (fun c18 => ?_)
                        · have bq1 := (hoh (top + (-1) - 1) (by omega) (by omega)).1
                          rw [← heq (top + (-1) - 1) (by omega) (by omega)] at bq1
                          have bq2 := (hoh (top + (-1)) (by omega) (by omega)).1
                          rw [← heq (top + (-1)) (by omega) (by omega)] at bq2
                          refine lv_iinc (v := iI (top + (-1))) (lv' := [(4, .int (iI (top + (-1)))), (6, .int (iI (F 62 k))), (5, .int (iI k)), (0, .ref h), (1, .int (iI ci)), (2, .int (iI lot)), (3, .int (iI t))]) hx hb dX2_isSo_300 hl (k := 2) rfl (iI_add _ _) (by decide) rfl (fun ls hl => ?_)
                          refine lv_aload_n hx hb dX2_isSo_303 rfl (lv_at hl 3 rfl) ?_
                          refine mg_72 hC hM dX2_isSo_304 ?_
                          refine lv_iload hx hb dX2_isSo_307 (lv_at hl 0 rfl) ?_
                          refine r_iconst hx hb dX2_isSo_309 ?_
                          refine r_isub hx hb dX2_isSo_310 ?_
                          refine lv_iload hx hb dX2_isSo_311 (lv_at hl 1 rfl) ?_
                          refine lv_aload_n hx hb dX2_isSo_313 rfl (lv_at hl 3 rfl) ?_
                          refine mg_72 hC hM dX2_isSo_314 ?_
                          refine lv_iload hx hb dX2_isSo_317 (lv_at hl 0 rfl) ?_
                          refine r_iconst hx hb dX2_isSo_319 ?_
                          refine r_isub hx hb dX2_isSo_320 ?_
                          refine ml_72 (v := q1 ((top + (-1)) - 1)) hC hM (by omega) rfl dX2_isSo_321 ?_
                          refine lv_aload_n hx hb dX2_isSo_322 rfl (lv_at hl 3 rfl) ?_
                          refine mg_72 hC hM dX2_isSo_323 ?_
                          refine lv_iload hx hb dX2_isSo_326 (lv_at hl 0 rfl) ?_
                          refine ml_72 (v := q1 (top + (-1))) hC hM (by omega) rfl dX2_isSo_328 ?_
                          refine s_calli (kX2_X2_of (rest := [.int (iI ((top + (-1)) - 1)), .ref (ad 72)]) (as := [.int (iI (F 62 k)), .int (iI (q1 ((top + (-1)) - 1))), .int (iI (q1 (top + (-1))))]) hx hb hml hown hts (met_of l (F 62 k) (q1 ((top + (-1)) - 1)) (q1 (top + (-1))) (by omega) bq1 bq2) ⟨rfl, rfl⟩ hR (by decide) rfl hl.1 rfl (Nat.le_of_ble_eq_true rfl) dX2_isSo_329) ?_
                          refine ms_72 (v := ofS (F 62 k) (q1 ((top + (-1)) - 1)) (q1 (top + (-1)))) hC hM hS (by omega) dX2_isSo_332 (fun H locs hM hS => ?_)
                          rw [upF_up] at hM
                          refine lv_iinc (v := iI (k + 1)) (lv' := [(5, .int (iI (k + 1))), (4, .int (iI (top + (-1)))), (6, .int (iI (F 62 k))), (0, .ref h), (1, .int (iI ci)), (2, .int (iI lot)), (3, .int (iI t))]) hx hb dX2_isSo_333 hl (k := 2) rfl (iI_add _ _) (by decide) rfl (fun ls hl => ?_)
                          refine lv_goto (tgt := 204) hx hb dX2_isSo_336 (by decide) ?_
                          have eT : stpT (F 62 k) top = top + (-1) := by unfold stpT; rw [if_neg (by omega), if_neg (by omega)]; omega
                          have eS : stpH (F 62 k) (F 63 k) (nmS I F sl sp t si wet pl) q1 top = updZ q1 ((top + (-1)) - 1) (ofS (F 62 k) (q1 ((top + (-1)) - 1)) (q1 (top + (-1)))) := by unfold stpH; rw [if_neg (by omega), if_neg (by omega), if_neg (by omega), show top + (-1) - 1 = top - 2 by omega, show top + (-1) = top - 1 by omega]
                          have hrun1 : runH (F 62) (F 63) (nmS I F sl sp t si wet pl) (F 65 ci - (k + 1)).toNat (k + 1) (stpH (F 62 k) (F 63 k) (nmS I F sl sp t si wet pl) hp top) (stpT (F 62 k) top) = runH (F 62) (F 63) (nmS I F sl sp t si wet pl) (F 65 ci - F 64 ci).toNat (F 64 ci) (fun _ => 0) 0 := hrun
                          rw [eT] at hok1 hoh1 heq1 hrun1
                          rw [eS] at heq1
                          exact ih14 (top + (-1)) (k + 1) (va_up (va_up F 71 g) 72 (updZ q1 ((top + (-1)) - 1) (ofS (F 62 k) (q1 ((top + (-1)) - 1)) (q1 (top + (-1)))))) (by omega) (by omega) (by omega) (by omega) (⟨_, _, tp1, rfl, hok1, hoh1, heq1, hrun1⟩) _ _ _ hM hS (lv_sub hl [0, 1, 3, 4, 5, 6] rfl)
                        · refine lv_aload_n hx hb dX2_isSo_277 rfl (lv_at hl 3 rfl) ?_
                          refine mg_72 hC hM dX2_isSo_278 ?_
                          refine lv_iload hx hb dX2_isSo_281 (lv_at hl 2 rfl) ?_
                          refine r_iconst hx hb dX2_isSo_283 ?_
                          refine r_isub hx hb dX2_isSo_284 ?_
                          refine r_iconst hx hb dX2_isSo_285 ?_
                          refine lv_aload_n hx hb dX2_isSo_286 rfl (lv_at hl 3 rfl) ?_
                          refine mg_72 hC hM dX2_isSo_287 ?_
                          refine lv_iload hx hb dX2_isSo_290 (lv_at hl 2 rfl) ?_
                          refine r_iconst hx hb dX2_isSo_292 ?_
                          refine r_isub hx hb dX2_isSo_293 ?_
                          refine ml_72 (v := q1 (top - 1)) hC hM (by omega) rfl dX2_isSo_294 ?_
                          refine r_isub hx hb dX2_isSo_295 ?_
                          refine ms_72 (v := 1 - (q1 (top - 1))) hC hM hS (by omega) dX2_isSo_296 (fun H locs hM hS => ?_)
                          rw [upF_up] at hM
                          refine lv_goto (tgt := 333) hx hb dX2_isSo_297 (by decide) ?_
                          refine lv_iinc (v := iI (k + 1)) (lv' := [(5, .int (iI (k + 1))), (6, .int (iI (F 62 k))), (4, .int (iI top)), (0, .ref h), (1, .int (iI ci)), (2, .int (iI lot)), (3, .int (iI t))]) hx hb dX2_isSo_333 hl (k := 1) rfl (iI_add _ _) (by decide) rfl (fun ls hl => ?_)
                          refine lv_goto (tgt := 204) hx hb dX2_isSo_336 (by decide) ?_
                          have eT : stpT (F 62 k) top = top := by unfold stpT; rw [if_neg (by omega), if_pos (by omega)]
                          have eS : stpH (F 62 k) (F 63 k) (nmS I F sl sp t si wet pl) q1 top = updZ q1 (top - 1) (1 - (q1 (top - 1))) := by unfold stpH; rw [if_neg (by omega), if_neg (by omega), if_pos (by omega)]
                          have hrun1 : runH (F 62) (F 63) (nmS I F sl sp t si wet pl) (F 65 ci - (k + 1)).toNat (k + 1) (stpH (F 62 k) (F 63 k) (nmS I F sl sp t si wet pl) hp top) (stpT (F 62 k) top) = runH (F 62) (F 63) (nmS I F sl sp t si wet pl) (F 65 ci - F 64 ci).toNat (F 64 ci) (fun _ => 0) 0 := hrun
                          rw [eT] at hok1 hoh1 heq1 hrun1
                          rw [eS] at heq1
                          exact ih14 top (k + 1) (va_up (va_up F 71 g) 72 (updZ q1 (top - 1) (1 - (q1 (top - 1))))) (by omega) (by omega) (by omega) (by omega) (⟨_, _, tp1, rfl, hok1, hoh1, heq1, hrun1⟩) _ _ _ hM hS (lv_sub hl [0, 2, 3, 4, 5, 6] rfl)
                      · refine lv_aload_n hx hb dX2_isSo_230 rfl (lv_at hl 3 rfl) ?_
                        refine mg_72 hC hM dX2_isSo_231 ?_
                        refine lv_iload hx hb dX2_isSo_234 (lv_at hl 2 rfl) ?_
                        refine lv_iload hx hb dX2_isSo_236 (lv_at hl 0 rfl) ?_
                        refine r_if_ne (tgt := 251) hx hb dX2_isSo_238 (by decide) (by omega) (fun c19 => ?_) (fun c19 => ?_)
                        · refine lv_aload_n hx hb dX2_isSo_251 rfl (lv_at hl 3 rfl) ?_
                          refine mg_71 hC hM dX2_isSo_252 ?_
                          refine lv_aload_n hx hb dX2_isSo_255 rfl (lv_at hl 3 rfl) ?_
                          refine mg_63 hC hM dX2_isSo_256 ?_
                          refine lv_iload hx hb dX2_isSo_259 (lv_at hl 1 rfl) ?_
                          refine ml_63 (v := F 63 k) hC hM (by omega) rfl dX2_isSo_261 ?_
                          refine ml_71 (v := g (F 63 k)) hC hM (by omega) rfl dX2_isSo_262 ?_
                          refine ms_72 (v := g (F 63 k)) hC hM hS (by omega) dX2_isSo_263 (fun H locs hM hS => ?_)
                          rw [upF_up] at hM
                          refine lv_iinc (v := iI (top + 1)) (lv' := [(4, .int (iI (top + 1))), (6, .int (iI (F 62 k))), (5, .int (iI k)), (0, .ref h), (1, .int (iI ci)), (2, .int (iI lot)), (3, .int (iI t))]) hx hb dX2_isSo_264 hl (k := 2) rfl (iI_add _ _) (by decide) rfl (fun ls hl => ?_)
                          refine lv_goto (tgt := 333) hx hb dX2_isSo_267 (by decide) ?_
                          refine lv_iinc (v := iI (k + 1)) (lv' := [(5, .int (iI (k + 1))), (4, .int (iI (top + 1))), (6, .int (iI (F 62 k))), (0, .ref h), (1, .int (iI ci)), (2, .int (iI lot)), (3, .int (iI t))]) hx hb dX2_isSo_333 hl (k := 2) rfl (iI_add _ _) (by decide) rfl (fun ls hl => ?_)
                          refine lv_goto (tgt := 204) hx hb dX2_isSo_336 (by decide) ?_
                          have eT : stpT (F 62 k) top = top + 1 := if_pos (by omega)
                          have eS : stpH (F 62 k) (F 63 k) (nmS I F sl sp t si wet pl) q1 top = updZ q1 top (g (F 63 k)) := by unfold stpH; rw [if_neg (by omega), if_pos (by omega), hgn _ (by omega) (by omega)]
                          have hrun1 : runH (F 62) (F 63) (nmS I F sl sp t si wet pl) (F 65 ci - (k + 1)).toNat (k + 1) (stpH (F 62 k) (F 63 k) (nmS I F sl sp t si wet pl) hp top) (stpT (F 62 k) top) = runH (F 62) (F 63) (nmS I F sl sp t si wet pl) (F 65 ci - F 64 ci).toNat (F 64 ci) (fun _ => 0) 0 := hrun
                          rw [eT] at hok1 hoh1 heq1 hrun1
                          rw [eS] at heq1
                          exact ih14 (top + 1) (k + 1) (va_up (va_up F 71 g) 72 (updZ q1 top (g (F 63 k)))) (by omega) (by omega) (by omega) (by omega) (⟨_, _, tp1, rfl, hok1, hoh1, heq1, hrun1⟩) _ _ _ hM hS (lv_sub hl [0, 1, 3, 4, 5, 6] rfl)
                        · refine lv_aload_n hx hb dX2_isSo_241 rfl (lv_at hl 3 rfl) ?_
                          refine mg_63 hC hM dX2_isSo_242 ?_
                          refine lv_iload hx hb dX2_isSo_245 (lv_at hl 1 rfl) ?_
                          refine ml_63 (v := F 63 k) hC hM (by omega) rfl dX2_isSo_247 ?_
                          refine lv_goto (tgt := 263) hx hb dX2_isSo_248 (by decide) ?_
                          refine ms_72 (v := F 63 k) hC hM hS (by omega) dX2_isSo_263 (fun H locs hM hS => ?_)
                          rw [upF_up] at hM
                          refine lv_iinc (v := iI (top + 1)) (lv' := [(4, .int (iI (top + 1))), (6, .int (iI (F 62 k))), (5, .int (iI k)), (0, .ref h), (1, .int (iI ci)), (2, .int (iI lot)), (3, .int (iI t))]) hx hb dX2_isSo_264 hl (k := 2) rfl (iI_add _ _) (by decide) rfl (fun ls hl => ?_)
                          refine lv_goto (tgt := 333) hx hb dX2_isSo_267 (by decide) ?_
                          refine lv_iinc (v := iI (k + 1)) (lv' := [(5, .int (iI (k + 1))), (4, .int (iI (top + 1))), (6, .int (iI (F 62 k))), (0, .ref h), (1, .int (iI ci)), (2, .int (iI lot)), (3, .int (iI t))]) hx hb dX2_isSo_333 hl (k := 2) rfl (iI_add _ _) (by decide) rfl (fun ls hl => ?_)
                          refine lv_goto (tgt := 204) hx hb dX2_isSo_336 (by decide) ?_
                          have eT : stpT (F 62 k) top = top + 1 := if_pos (by omega)
                          have eS : stpH (F 62 k) (F 63 k) (nmS I F sl sp t si wet pl) q1 top = updZ q1 top (F 63 k) := if_pos (by omega)
                          have hrun1 : runH (F 62) (F 63) (nmS I F sl sp t si wet pl) (F 65 ci - (k + 1)).toNat (k + 1) (stpH (F 62 k) (F 63 k) (nmS I F sl sp t si wet pl) hp top) (stpT (F 62 k) top) = runH (F 62) (F 63) (nmS I F sl sp t si wet pl) (F 65 ci - F 64 ci).toNat (F 64 ci) (fun _ => 0) 0 := hrun
                          rw [eT] at hok1 hoh1 heq1 hrun1
                          rw [eS] at heq1
                          exact ih14 (top + 1) (k + 1) (va_up (va_up F 71 g) 72 (updZ q1 top (F 63 k))) (by omega) (by omega) (by omega) (by omega) (⟨_, _, tp1, rfl, hok1, hoh1, heq1, hrun1⟩) _ _ _ hM hS (lv_sub hl [0, 1, 3, 4, 5, 6] rfl)
                exact loop204_13 ((F 65 ci - (F 64 ci) : Int).toNat + 1) 0 (F 64 ci) (va_up (va_up F 71 g) 72 (F 72)) (by omega) (by omega) (by omega) (by omega) (⟨_, fun _ => 0, fun _ => 0, rfl, hok, fun i h0 h1 => absurd h1 (by omega), fun i h0 h1 => absurd h1 (by omega), rfl⟩) _ _ _ hM hS (lv_sub hl [0, 1, 2, 3, 4, 5] rfl)
              · have b9 := a9 j (by omega) (by omega)
                have b27 := gp0 j (by omega) (by omega)
                have b6 := a6 j (by omega) (by omega)
                refine lv_aload_n hx hb dX2_isSo_140 rfl (lv_at hl 1 rfl) ?_
                refine mg_71 hC hM dX2_isSo_141 ?_
                refine r_bipush hx hb dX2_isSo_144 (by decide) ?_
                refine lv_dup2_11 hx hb dX2_isSo_146 rfl rfl ?_
                refine ml_71 (v := g 6) hC hM (by decide) rfl dX2_isSo_147 ?_
                refine lv_aload_n hx hb dX2_isSo_148 rfl (lv_at hl 1 rfl) ?_
                refine mg_9 hC hM dX2_isSo_149 ?_
                refine lv_iload hx hb dX2_isSo_152 (lv_at hl 0 rfl) ?_
                refine ml_9 (v := F 9 j) hC hM (by omega) rfl dX2_isSo_154 ?_
                have jn20 : W p l e R s m args below meth c H locs 0 0 Q (F0 m 185 ls [.int (iI (if F 9 j = 0 ∧ pl j ≠ F 6 j then 1 else 0)), .int (iI (g 6)), .int (iI 6), .ref (ad 71)]) := by
                  refine r_iadd hx hb dX2_isSo_185 ?_
                  refine ms_71 (v := (g 6) + (if F 9 j = 0 ∧ pl j ≠ F 6 j then 1 else 0)) hC hM hS (by decide) dX2_isSo_186 (fun H locs hM hS => ?_)
                  rw [upF_up] at hM
                  refine lv_iinc (v := iI (j + 1)) (lv' := [(4, .int (iI (j + 1))), (0, .ref h), (1, .int (iI ci)), (2, .int (iI lot)), (3, .int (iI t))]) hx hb dX2_isSo_187 hl (k := 0) rfl (iI_add _ _) (by decide) rfl (fun ls hl => ?_)
                  refine lv_goto (tgt := 131) hx hb dX2_isSo_190 (by decide) ?_
                  exact ih10 (j + 1) (va_up F 71 (updZ g 6 ((g 6) + (if F 9 j = 0 ∧ pl j ≠ F 6 j then 1 else 0)))) (by omega) (by omega) (by omega) (⟨_, rfl, ⟨g0, g1, g2, g3, g4⟩, g5, by show g 6 + _ = _; rw [g6, sm_s _ hj0]⟩) _ _ _ hM hS (lv_sub hl [0, 1, 2, 3, 4] rfl)
                refine r_if_ne (tgt := 184) hx hb dX2_isSo_155 (by decide) (by omega) (fun c21 => ?_) (fun c21 => ?_)
                · refine r_iconst hx hb dX2_isSo_184 ?_
                  rw [if_neg (by omega)] at jn20
                  exact jn20
                · refine lv_aload_n hx hb dX2_isSo_158 rfl (lv_at hl 1 rfl) ?_
                  refine mg_27 hC hM dX2_isSo_159 ?_
                  refine r_bipush hx hb dX2_isSo_162 (by decide) ?_
                  refine lv_iload_n hx hb dX2_isSo_164 rfl (lv_at hl 3 rfl) ?_
                  refine r_imul hx hb dX2_isSo_165 ?_
                  refine lv_iload hx hb dX2_isSo_166 (lv_at hl 0 rfl) ?_
                  refine r_iadd hx hb dX2_isSo_168 ?_
                  refine ml_27 (v := pl j) hC hM (by omega) (e27 j (by omega) (by omega)) dX2_isSo_169 ?_
                  refine lv_aload_n hx hb dX2_isSo_170 rfl (lv_at hl 1 rfl) ?_
                  refine mg_6 hC hM dX2_isSo_171 ?_
                  refine lv_iload hx hb dX2_isSo_174 (lv_at hl 0 rfl) ?_
                  refine ml_6 (v := F 6 j) hC hM (by omega) rfl dX2_isSo_176 ?_
                  refine r_icmp_eq (tgt := 184) hx hb dX2_isSo_177 (by decide) (by omega) (by omega) (fun c22 => ?_) (fun c22 => ?_)
                  · refine r_iconst hx hb dX2_isSo_184 ?_
                    rw [if_neg (by omega)] at jn20
                    exact jn20
                  · refine r_iconst hx hb dX2_isSo_180 ?_
                    refine lv_goto (tgt := 185) hx hb dX2_isSo_181 (by decide) ?_
                    rw [if_pos (by omega)] at jn20
                    exact jn20
          exact loop131_9 ((I 4 - 0 : Int).toNat + 1) 0 (va_up F 71 g) (by omega) (by omega) (by omega) (⟨g, rfl, ⟨g0, g1, g2, g3, g4⟩, by rw [g5, ek], by rw [g6, sm_0]⟩) _ _ _ hM hS (lv_sub hl [0, 1, 2, 3, 4] rfl)
        · have b33 := gw0 k (by omega) (by omega)
          refine lv_aload_n hx hb dX2_isSo_93 rfl (lv_at hl 1 rfl) ?_
          refine mg_71 hC hM dX2_isSo_94 ?_
          refine r_iconst hx hb dX2_isSo_97 ?_
          refine lv_dup2_11 hx hb dX2_isSo_98 rfl rfl ?_
          refine ml_71 (v := g 5) hC hM (by decide) rfl dX2_isSo_99 ?_
          refine lv_aload_n hx hb dX2_isSo_100 rfl (lv_at hl 1 rfl) ?_
          refine mg_33 hC hM dX2_isSo_101 ?_
          refine r_bipush hx hb dX2_isSo_104 (by decide) ?_
          refine lv_iload_n hx hb dX2_isSo_106 rfl (lv_at hl 3 rfl) ?_
          refine r_imul hx hb dX2_isSo_107 ?_
          refine lv_iload hx hb dX2_isSo_108 (lv_at hl 0 rfl) ?_
          refine r_iadd hx hb dX2_isSo_110 ?_
          refine ml_33 (v := wet k) hC hM (by omega) (e33 k (by omega) (by omega)) dX2_isSo_111 ?_
          have jn23 : W p l e R s m args below meth c H locs 0 0 Q (F0 m 120 ls [.int (iI (if wet k = 0 then 0 else 1)), .int (iI (g 5)), .int (iI 5), .ref (ad 71)]) := by
            refine r_iadd hx hb dX2_isSo_120 ?_
            refine ms_71 (v := (g 5) + (if wet k = 0 then 0 else 1)) hC hM hS (by decide) dX2_isSo_121 (fun H locs hM hS => ?_)
            rw [upF_up] at hM
            refine lv_iinc (v := iI (k + 1)) (lv' := [(4, .int (iI (k + 1))), (0, .ref h), (1, .int (iI ci)), (2, .int (iI lot)), (3, .int (iI t))]) hx hb dX2_isSo_122 hl (k := 0) rfl (iI_add _ _) (by decide) rfl (fun ls hl => ?_)
            refine lv_goto (tgt := 84) hx hb dX2_isSo_125 (by decide) ?_
            exact ih6 (k + 1) (va_up F 71 (updZ g 5 ((g 5) + (if wet k = 0 then 0 else 1)))) (by omega) (by omega) (by omega) (⟨_, rfl, ⟨g0, g1, g2, g3, g4⟩, by show g 5 + _ = _; rw [g5, sm_s _ hk0], g6⟩) _ _ _ hM hS (lv_sub hl [0, 1, 2, 3, 4] rfl)
          refine r_if_eq (tgt := 119) hx hb dX2_isSo_112 (by decide) (by omega) (fun c24 => ?_) (fun c24 => ?_)
          · refine r_iconst hx hb dX2_isSo_119 ?_
            rw [if_pos (by omega)] at jn23
            exact jn23
          · refine r_iconst hx hb dX2_isSo_115 ?_
            refine lv_goto (tgt := 120) hx hb dX2_isSo_116 (by decide) ?_
            rw [if_neg (by omega)] at jn23
            exact jn23
    exact loop84_5 ((I 15 - 0 : Int).toNat + 1) 0 (va_up F 71 (updZ (updZ (updZ (updZ (updZ (updZ (updZ (F 71) 0 sl) 1 sp) 2 t) 3 si) 4 (seaS (I 18) (F 19) (F 20) (F 21) t)) 5 0) 6 0)) (by omega) (by omega) (by omega) (⟨_, rfl, ⟨rfl, rfl, rfl, rfl, rfl⟩, rfl, rfl⟩) _ _ _ hM hS (lv_sub hl [0, 1, 2, 3, 4] rfl)
  · refine r_iconst hx hb dX2_isSo_10 ?_
    exact m_zret hC hQ hr hlk hM hS (by decide) dX2_isSo_11 (⟨if_pos cb, rfl, ⟨F 71, F 72, by rw [up_self]; exact up_self F 72⟩⟩)
theorem dX2_slides_0 : decode cX2_slides 0 = .ok (.iconst 0, 1) := by decide +kernel
theorem dX2_slides_1 : decode cX2_slides 1 = .ok (.istore_n 2, 1) := by decide +kernel
theorem dX2_slides_2 : decode cX2_slides 2 = .ok (.iload_n 2, 1) := by decide +kernel
theorem dX2_slides_3 : decode cX2_slides 3 = .ok (.aload_n 0, 1) := by decide +kernel
theorem dX2_slides_4 : decode cX2_slides 4 = .ok (.getfield 181, 3) := by decide +kernel
theorem dX2_slides_7 : decode cX2_slides 7 = .ok (.if_icmp .ge 111, 3) := by decide +kernel
theorem dX2_slides_10 : decode cX2_slides 10 = .ok (.bipush 12, 2) := by decide +kernel
theorem dX2_slides_12 : decode cX2_slides 12 = .ok (.iload_n 1, 1) := by decide +kernel
theorem dX2_slides_13 : decode cX2_slides 13 = .ok (.imul, 1) := by decide +kernel
theorem dX2_slides_14 : decode cX2_slides 14 = .ok (.iload_n 2, 1) := by decide +kernel
theorem dX2_slides_15 : decode cX2_slides 15 = .ok (.iadd, 1) := by decide +kernel
theorem dX2_slides_16 : decode cX2_slides 16 = .ok (.istore_n 3, 1) := by decide +kernel
theorem dX2_slides_17 : decode cX2_slides 17 = .ok (.aload_n 0, 1) := by decide +kernel
theorem dX2_slides_18 : decode cX2_slides 18 = .ok (.getfield 31, 3) := by decide +kernel
theorem dX2_slides_21 : decode cX2_slides 21 = .ok (.iload_n 2, 1) := by decide +kernel
theorem dX2_slides_22 : decode cX2_slides 22 = .ok (.baload, 1) := by decide +kernel
theorem dX2_slides_23 : decode cX2_slides 23 = .ok (.ifCond .ne 89, 3) := by decide +kernel
theorem dX2_slides_26 : decode cX2_slides 26 = .ok (.aload_n 0, 1) := by decide +kernel
theorem dX2_slides_27 : decode cX2_slides 27 = .ok (.getfield 28, 3) := by decide +kernel
theorem dX2_slides_30 : decode cX2_slides 30 = .ok (.iload_n 2, 1) := by decide +kernel
theorem dX2_slides_31 : decode cX2_slides 31 = .ok (.iaload, 1) := by decide +kernel
theorem dX2_slides_32 : decode cX2_slides 32 = .ok (.iconst (-1), 1) := by decide +kernel
theorem dX2_slides_33 : decode cX2_slides 33 = .ok (.if_icmp .ne 6, 3) := by decide +kernel
theorem dX2_slides_36 : decode cX2_slides 36 = .ok (.goto 76, 3) := by decide +kernel
theorem dX2_slides_39 : decode cX2_slides 39 = .ok (.aload_n 0, 1) := by decide +kernel
theorem dX2_slides_40 : decode cX2_slides 40 = .ok (.getfield 75, 3) := by decide +kernel
theorem dX2_slides_43 : decode cX2_slides 43 = .ok (.iload_n 1, 1) := by decide +kernel
theorem dX2_slides_44 : decode cX2_slides 44 = .ok (.iaload, 1) := by decide +kernel
theorem dX2_slides_45 : decode cX2_slides 45 = .ok (.aload_n 0, 1) := by decide +kernel
theorem dX2_slides_46 : decode cX2_slides 46 = .ok (.getfield 28, 3) := by decide +kernel
theorem dX2_slides_49 : decode cX2_slides 49 = .ok (.iload_n 2, 1) := by decide +kernel
theorem dX2_slides_50 : decode cX2_slides 50 = .ok (.iaload, 1) := by decide +kernel
theorem dX2_slides_51 : decode cX2_slides 51 = .ok (.if_icmp .le 24, 3) := by decide +kernel
theorem dX2_slides_54 : decode cX2_slides 54 = .ok (.aload_n 0, 1) := by decide +kernel
theorem dX2_slides_55 : decode cX2_slides 55 = .ok (.getfield 72, 3) := by decide +kernel
theorem dX2_slides_58 : decode cX2_slides 58 = .ok (.iload_n 3, 1) := by decide +kernel
theorem dX2_slides_59 : decode cX2_slides 59 = .ok (.iaload, 1) := by decide +kernel
theorem dX2_slides_60 : decode cX2_slides 60 = .ok (.bipush 19, 2) := by decide +kernel
theorem dX2_slides_62 : decode cX2_slides 62 = .ok (.if_icmp .ge 13, 3) := by decide +kernel
theorem dX2_slides_65 : decode cX2_slides 65 = .ok (.aload_n 0, 1) := by decide +kernel
theorem dX2_slides_66 : decode cX2_slides 66 = .ok (.getfield 72, 3) := by decide +kernel
theorem dX2_slides_69 : decode cX2_slides 69 = .ok (.iload_n 3, 1) := by decide +kernel
theorem dX2_slides_70 : decode cX2_slides 70 = .ok (.dup2, 1) := by decide +kernel
theorem dX2_slides_71 : decode cX2_slides 71 = .ok (.iaload, 1) := by decide +kernel
theorem dX2_slides_72 : decode cX2_slides 72 = .ok (.iconst 1, 1) := by decide +kernel
theorem dX2_slides_73 : decode cX2_slides 73 = .ok (.iadd, 1) := by decide +kernel
theorem dX2_slides_74 : decode cX2_slides 74 = .ok (.iastore, 1) := by decide +kernel
theorem dX2_slides_75 : decode cX2_slides 75 = .ok (.aload_n 0, 1) := by decide +kernel
theorem dX2_slides_76 : decode cX2_slides 76 = .ok (.getfield 75, 3) := by decide +kernel
theorem dX2_slides_79 : decode cX2_slides 79 = .ok (.iload_n 1, 1) := by decide +kernel
theorem dX2_slides_80 : decode cX2_slides 80 = .ok (.iaload, 1) := by decide +kernel
theorem dX2_slides_81 : decode cX2_slides 81 = .ok (.aload_n 0, 1) := by decide +kernel
theorem dX2_slides_82 : decode cX2_slides 82 = .ok (.getfield 28, 3) := by decide +kernel
theorem dX2_slides_85 : decode cX2_slides 85 = .ok (.iload_n 2, 1) := by decide +kernel
theorem dX2_slides_86 : decode cX2_slides 86 = .ok (.iaload, 1) := by decide +kernel
theorem dX2_slides_87 : decode cX2_slides 87 = .ok (.ineg, 1) := by decide +kernel
theorem dX2_slides_88 : decode cX2_slides 88 = .ok (.if_icmp .ge 24, 3) := by decide +kernel
theorem dX2_slides_91 : decode cX2_slides 91 = .ok (.aload_n 0, 1) := by decide +kernel
theorem dX2_slides_92 : decode cX2_slides 92 = .ok (.getfield 72, 3) := by decide +kernel
theorem dX2_slides_95 : decode cX2_slides 95 = .ok (.iload_n 3, 1) := by decide +kernel
theorem dX2_slides_96 : decode cX2_slides 96 = .ok (.iaload, 1) := by decide +kernel
theorem dX2_slides_97 : decode cX2_slides 97 = .ok (.bipush (-19), 2) := by decide +kernel
theorem dX2_slides_99 : decode cX2_slides 99 = .ok (.if_icmp .le 13, 3) := by decide +kernel
theorem dX2_slides_102 : decode cX2_slides 102 = .ok (.aload_n 0, 1) := by decide +kernel
theorem dX2_slides_103 : decode cX2_slides 103 = .ok (.getfield 72, 3) := by decide +kernel
theorem dX2_slides_106 : decode cX2_slides 106 = .ok (.iload_n 3, 1) := by decide +kernel
theorem dX2_slides_107 : decode cX2_slides 107 = .ok (.dup2, 1) := by decide +kernel
theorem dX2_slides_108 : decode cX2_slides 108 = .ok (.iaload, 1) := by decide +kernel
theorem dX2_slides_109 : decode cX2_slides 109 = .ok (.iconst 1, 1) := by decide +kernel
theorem dX2_slides_110 : decode cX2_slides 110 = .ok (.isub, 1) := by decide +kernel
theorem dX2_slides_111 : decode cX2_slides 111 = .ok (.iastore, 1) := by decide +kernel
theorem dX2_slides_112 : decode cX2_slides 112 = .ok (.iinc 2 1, 3) := by decide +kernel
theorem dX2_slides_115 : decode cX2_slides 115 = .ok (.goto (-113), 3) := by decide +kernel
theorem dX2_slides_118 : decode cX2_slides 118 = .ok (.return_, 1) := by decide +kernel
set_option maxHeartbeats 4000000 in
theorem met_slides (l : Launch) (D : va_G) (E : Nat → ClassId) (A : Nat → Prop) (h : Nat) (ad : Nat → Nat) (I : Nat → Int) (F : Nat → Int → Int) (lot sl : Int) (pl : Int → Int) (hlot : 0 ≤ lot ∧ lot ≤ 1) (e28 : F 28 lot = sl) (e27 : ∀ w, 0 ≤ w → w < 12 → F 27 (12 * lot + w) = pl w) (b28 : -80 ≤ sl ∧ sl ≤ 80) (gp0 : Bd pl 12 (-19) 19) (gl0 : gLoad I F) : MM l yX2_slides cX2_slides 4 none (mrm 0) D E A h ad [.int (iI lot)] I F (MQv D E A h ad (fun I1 F1 => I = I1 ∧ va_up F 27 (fedT (F 27) (12 * lot) (slidS (F 9) (F 8) sl pl) (I 4)) = F1)) := by
  refine m_start (by decide) rfl (Nat.le_of_ble_eq_true rfl) ?_
  intro p e R s m args below meth c ls Q hR hQ hC hml hr hlk hM hS hl
  have hx := hC.1
  have hb := hC.2.1
  have hown := hC.2.2.1
  have hts := hC.2.2.2.1
  have hl : lv_has ls 4 [(0, .ref h), (1, .int (iI lot))] := hl
  obtain ⟨i4, a5, a6, a7, a8, a9, i10, a11, a12, a13, a14, a14h⟩ := id gl0
  refine r_iconst hx hb dX2_slides_0 ?_
  refine lv_istore_n (lv' := [(2, .int (iI 0)), (0, .ref h), (1, .int (iI lot))]) hx hb dX2_slides_1 rfl hl (by decide) rfl (fun ls hl => ?_)
  have loop2_1 : ∀ (n : Nat) (k : Int) (F1 : Nat → Int → Int), I 4 - k < (n : Int) → 0 ≤ k → k ≤ I 4 → F1 = va_up F 27 (fedT (F 27) (12 * lot) (slidS (F 9) (F 8) sl pl) k) → ∀ (H : Heap) (locs : List Loc) (ls : Array Slot), MW D E A h ad I F1 H → va_S A s.heap H locs → lv_has ls 4 [(2, .int (iI k)), (0, .ref h), (1, .int (iI lot))] → W p l e R s m args below meth c H locs 0 0 Q (F0 m 2 ls []) := by
    intro n
    induction n with
    | zero => intro k F1 hn3 hk0 hk1 eF; exfalso; omega
    | succ n ih2 =>
      intro k F1 hn3 hk0 hk1 eF H locs ls hM hS hl
      subst eF
      refine lv_iload_n hx hb dX2_slides_2 rfl (lv_at hl 0 rfl) ?_
      refine lv_aload_n hx hb dX2_slides_3 rfl (lv_at hl 1 rfl) ?_
      refine mg_4 (v := I 4) hC hM rfl dX2_slides_4 ?_
      refine r_icmp_ge (tgt := 118) hx hb dX2_slides_7 (by decide) (by omega) (by omega) (fun c4 => ?_) (fun c4 => ?_)
      · have ek : k = I 4 := by omega
        exact m_vret hC hQ hr hlk hM hS dX2_slides_118 (⟨rfl, by rw [ek]⟩)
      · have b8 := a8 k (by omega) (by omega)
        have b9 := a9 k (by omega) (by omega)
        have b27 := gp0 k (by omega) (by omega)
        have e27k := e27 k (by omega) (by omega)
        have erd : fedT (F 27) (12 * lot) (slidS (F 9) (F 8) sl pl) k (12 * lot + k) = pl k := by rw [fedT_n (by omega), e27k]
        refine r_bipush hx hb dX2_slides_10 (by decide) ?_
        refine lv_iload_n hx hb dX2_slides_12 rfl (lv_at hl 2 rfl) ?_
        refine r_imul hx hb dX2_slides_13 ?_
        refine lv_iload_n hx hb dX2_slides_14 rfl (lv_at hl 0 rfl) ?_
        refine r_iadd hx hb dX2_slides_15 ?_
        refine lv_istore_n (lv' := [(3, .int (iI ((12 * lot) + k))), (2, .int (iI k)), (0, .ref h), (1, .int (iI lot))]) hx hb dX2_slides_16 rfl hl (by decide) rfl (fun ls hl => ?_)
        refine lv_aload_n hx hb dX2_slides_17 rfl (lv_at hl 2 rfl) ?_
        refine mg_9 hC hM dX2_slides_18 ?_
        refine lv_iload_n hx hb dX2_slides_21 rfl (lv_at hl 1 rfl) ?_
        refine ml_9 (v := F 9 k) hC hM (by omega) rfl dX2_slides_22 ?_
        refine r_if_ne (tgt := 112) hx hb dX2_slides_23 (by decide) (by omega) (fun c5 => ?_) (fun c5 => ?_)
        · refine lv_iinc (v := iI (k + 1)) (lv' := [(2, .int (iI (k + 1))), (3, .int (iI ((12 * lot) + k))), (0, .ref h), (1, .int (iI lot))]) hx hb dX2_slides_112 hl (k := 1) rfl (iI_add _ _) (by decide) rfl (fun ls hl => ?_)
          refine lv_goto (tgt := 2) hx hb dX2_slides_115 (by decide) ?_
          exact ih2 (k + 1) (va_up F 27 (fedT (F 27) (12 * lot) (slidS (F 9) (F 8) sl pl) k)) (by omega) (by omega) (by omega) (congrArg (va_up F 27) (fedT_skip hk0 (by rw [e27k]; unfold slidS; rw [if_pos (by omega)]))) _ _ _ hM hS (lv_sub hl [0, 2, 3] rfl)
        · refine lv_aload_n hx hb dX2_slides_26 rfl (lv_at hl 2 rfl) ?_
          refine mg_8 hC hM dX2_slides_27 ?_
          refine lv_iload_n hx hb dX2_slides_30 rfl (lv_at hl 1 rfl) ?_
          refine ml_8 (v := F 8 k) hC hM (by omega) rfl dX2_slides_31 ?_
          refine r_iconst hx hb dX2_slides_32 ?_
          refine r_icmp_ne (tgt := 39) hx hb dX2_slides_33 (by decide) (by omega) (by decide) (fun c6 => ?_) (fun c6 => ?_)
          · refine lv_aload_n hx hb dX2_slides_39 rfl (lv_at hl 2 rfl) ?_
            refine mg_28 hC hM dX2_slides_40 ?_
            refine lv_iload_n hx hb dX2_slides_43 rfl (lv_at hl 3 rfl) ?_
            refine ml_28 (v := sl) hC hM (by omega) e28 dX2_slides_44 ?_
            refine lv_aload_n hx hb dX2_slides_45 rfl (lv_at hl 2 rfl) ?_
            refine mg_8 hC hM dX2_slides_46 ?_
            refine lv_iload_n hx hb dX2_slides_49 rfl (lv_at hl 1 rfl) ?_
            refine ml_8 (v := F 8 k) hC hM (by omega) rfl dX2_slides_50 ?_
            refine r_icmp_le (tgt := 75) hx hb dX2_slides_51 (by decide) (by omega) (by omega) (fun c7 => ?_) (fun c7 => ?_)
            · refine lv_aload_n hx hb dX2_slides_75 rfl (lv_at hl 2 rfl) ?_
              refine mg_28 hC hM dX2_slides_76 ?_
              refine lv_iload_n hx hb dX2_slides_79 rfl (lv_at hl 3 rfl) ?_
              refine ml_28 (v := sl) hC hM (by omega) e28 dX2_slides_80 ?_
              refine lv_aload_n hx hb dX2_slides_81 rfl (lv_at hl 2 rfl) ?_
              refine mg_8 hC hM dX2_slides_82 ?_
              refine lv_iload_n hx hb dX2_slides_85 rfl (lv_at hl 1 rfl) ?_
              refine ml_8 (v := F 8 k) hC hM (by omega) rfl dX2_slides_86 ?_
              refine r_ineg hx hb dX2_slides_87 ?_
              refine r_icmp_ge (tgt := 112) hx hb dX2_slides_88 (by decide) (by omega) (by omega) (fun c8 => ?_) (fun c8 => ?_)
              · refine lv_iinc (v := iI (k + 1)) (lv' := [(2, .int (iI (k + 1))), (3, .int (iI ((12 * lot) + k))), (0, .ref h), (1, .int (iI lot))]) hx hb dX2_slides_112 hl (k := 1) rfl (iI_add _ _) (by decide) rfl (fun ls hl => ?_)
                refine lv_goto (tgt := 2) hx hb dX2_slides_115 (by decide) ?_
                exact ih2 (k + 1) (va_up F 27 (fedT (F 27) (12 * lot) (slidS (F 9) (F 8) sl pl) k)) (by omega) (by omega) (by omega) (congrArg (va_up F 27) (fedT_skip hk0 (by rw [e27k]; unfold slidS; rw [if_neg (by omega), if_neg (by omega), if_neg (by omega)]))) _ _ _ hM hS (lv_sub hl [0, 2, 3] rfl)
              · refine lv_aload_n hx hb dX2_slides_91 rfl (lv_at hl 2 rfl) ?_
                refine mg_27 hC hM dX2_slides_92 ?_
                refine lv_iload_n hx hb dX2_slides_95 rfl (lv_at hl 0 rfl) ?_
                refine ml_27 (v := pl k) hC hM (by omega) erd dX2_slides_96 ?_
                refine r_bipush hx hb dX2_slides_97 (by decide) ?_
                refine r_icmp_le (tgt := 112) hx hb dX2_slides_99 (by decide) (by omega) (by decide) (fun c9 => ?_) (fun c9 => ?_)
                · refine lv_iinc (v := iI (k + 1)) (lv' := [(2, .int (iI (k + 1))), (3, .int (iI ((12 * lot) + k))), (0, .ref h), (1, .int (iI lot))]) hx hb dX2_slides_112 hl (k := 1) rfl (iI_add _ _) (by decide) rfl (fun ls hl => ?_)
                  refine lv_goto (tgt := 2) hx hb dX2_slides_115 (by decide) ?_
                  exact ih2 (k + 1) (va_up F 27 (fedT (F 27) (12 * lot) (slidS (F 9) (F 8) sl pl) k)) (by omega) (by omega) (by omega) (congrArg (va_up F 27) (fedT_skip hk0 (by rw [e27k]; unfold slidS; rw [if_neg (by omega), if_neg (by omega), if_pos (by omega), if_neg (by omega)]))) _ _ _ hM hS (lv_sub hl [0, 2, 3] rfl)
                · refine lv_aload_n hx hb dX2_slides_102 rfl (lv_at hl 2 rfl) ?_
                  refine mg_27 hC hM dX2_slides_103 ?_
                  refine lv_iload_n hx hb dX2_slides_106 rfl (lv_at hl 0 rfl) ?_
                  refine lv_dup2_11 hx hb dX2_slides_107 rfl rfl ?_
                  refine ml_27 (v := pl k) hC hM (by omega) erd dX2_slides_108 ?_
                  refine r_iconst hx hb dX2_slides_109 ?_
                  refine r_isub hx hb dX2_slides_110 ?_
                  refine ms_27 (v := (pl k) - 1) hC hM hS (by omega) dX2_slides_111 (fun H locs hM hS => ?_)
                  rw [upF_up] at hM
                  refine lv_iinc (v := iI (k + 1)) (lv' := [(2, .int (iI (k + 1))), (3, .int (iI ((12 * lot) + k))), (0, .ref h), (1, .int (iI lot))]) hx hb dX2_slides_112 hl (k := 1) rfl (iI_add _ _) (by decide) rfl (fun ls hl => ?_)
                  refine lv_goto (tgt := 2) hx hb dX2_slides_115 (by decide) ?_
                  exact ih2 (k + 1) (va_up F 27 (updZ (fedT (F 27) (12 * lot) (slidS (F 9) (F 8) sl pl) k) ((12 * lot) + k) ((pl k) - 1))) (by omega) (by omega) (by omega) (congrArg (va_up F 27) (by rw [← fedT_s _ _ _ hk0]; congr 1; unfold slidS; rw [if_neg (by omega), if_neg (by omega), if_pos (by omega), if_pos (by omega)])) _ _ _ hM hS (lv_sub hl [0, 2, 3] rfl)
            · refine lv_aload_n hx hb dX2_slides_54 rfl (lv_at hl 2 rfl) ?_
              refine mg_27 hC hM dX2_slides_55 ?_
              refine lv_iload_n hx hb dX2_slides_58 rfl (lv_at hl 0 rfl) ?_
              refine ml_27 (v := pl k) hC hM (by omega) erd dX2_slides_59 ?_
              refine r_bipush hx hb dX2_slides_60 (by decide) ?_
              refine r_icmp_ge (tgt := 75) hx hb dX2_slides_62 (by decide) (by omega) (by decide) (fun c10 => ?_) (fun c10 => ?_)
              · refine lv_aload_n hx hb dX2_slides_75 rfl (lv_at hl 2 rfl) ?_
                refine mg_28 hC hM dX2_slides_76 ?_
                refine lv_iload_n hx hb dX2_slides_79 rfl (lv_at hl 3 rfl) ?_
                refine ml_28 (v := sl) hC hM (by omega) e28 dX2_slides_80 ?_
                refine lv_aload_n hx hb dX2_slides_81 rfl (lv_at hl 2 rfl) ?_
                refine mg_8 hC hM dX2_slides_82 ?_
                refine lv_iload_n hx hb dX2_slides_85 rfl (lv_at hl 1 rfl) ?_
                refine ml_8 (v := F 8 k) hC hM (by omega) rfl dX2_slides_86 ?_
                refine r_ineg hx hb dX2_slides_87 ?_
                refine r_icmp_ge (tgt := 112) hx hb dX2_slides_88 (by decide) (by omega) (by omega) (fun c11 => ?_) (fun c11 => absurd c11 (by omega))
                refine lv_iinc (v := iI (k + 1)) (lv' := [(2, .int (iI (k + 1))), (3, .int (iI ((12 * lot) + k))), (0, .ref h), (1, .int (iI lot))]) hx hb dX2_slides_112 hl (k := 1) rfl (iI_add _ _) (by decide) rfl (fun ls hl => ?_)
                refine lv_goto (tgt := 2) hx hb dX2_slides_115 (by decide) ?_
                exact ih2 (k + 1) (va_up F 27 (fedT (F 27) (12 * lot) (slidS (F 9) (F 8) sl pl) k)) (by omega) (by omega) (by omega) (congrArg (va_up F 27) (fedT_skip hk0 (by rw [e27k]; unfold slidS; rw [if_neg (by omega), if_pos (by omega), if_neg (by omega)]))) _ _ _ hM hS (lv_sub hl [0, 2, 3] rfl)
              · refine lv_aload_n hx hb dX2_slides_65 rfl (lv_at hl 2 rfl) ?_
                refine mg_27 hC hM dX2_slides_66 ?_
                refine lv_iload_n hx hb dX2_slides_69 rfl (lv_at hl 0 rfl) ?_
                refine lv_dup2_11 hx hb dX2_slides_70 rfl rfl ?_
                refine ml_27 (v := pl k) hC hM (by omega) erd dX2_slides_71 ?_
                refine r_iconst hx hb dX2_slides_72 ?_
                refine r_iadd hx hb dX2_slides_73 ?_
                refine ms_27 (v := (pl k) + 1) hC hM hS (by omega) dX2_slides_74 (fun H locs hM hS => ?_)
                rw [upF_up] at hM
                refine lv_aload_n hx hb dX2_slides_75 rfl (lv_at hl 2 rfl) ?_
                refine mg_28 hC hM dX2_slides_76 ?_
                refine lv_iload_n hx hb dX2_slides_79 rfl (lv_at hl 3 rfl) ?_
                refine ml_28 (v := sl) hC hM (by omega) e28 dX2_slides_80 ?_
                refine lv_aload_n hx hb dX2_slides_81 rfl (lv_at hl 2 rfl) ?_
                refine mg_8 hC hM dX2_slides_82 ?_
                refine lv_iload_n hx hb dX2_slides_85 rfl (lv_at hl 1 rfl) ?_
                refine ml_8 (v := F 8 k) hC hM (by omega) rfl dX2_slides_86 ?_
                refine r_ineg hx hb dX2_slides_87 ?_
                refine r_icmp_ge (tgt := 112) hx hb dX2_slides_88 (by decide) (by omega) (by omega) (fun c12 => ?_) (fun c12 => absurd c12 (by omega))
                refine lv_iinc (v := iI (k + 1)) (lv' := [(2, .int (iI (k + 1))), (3, .int (iI ((12 * lot) + k))), (0, .ref h), (1, .int (iI lot))]) hx hb dX2_slides_112 hl (k := 1) rfl (iI_add _ _) (by decide) rfl (fun ls hl => ?_)
                refine lv_goto (tgt := 2) hx hb dX2_slides_115 (by decide) ?_
                exact ih2 (k + 1) (va_up F 27 (updZ (fedT (F 27) (12 * lot) (slidS (F 9) (F 8) sl pl) k) ((12 * lot) + k) ((pl k) + 1))) (by omega) (by omega) (by omega) (congrArg (va_up F 27) (by rw [← fedT_s _ _ _ hk0]; congr 1; unfold slidS; rw [if_neg (by omega), if_pos (by omega), if_pos (by omega)])) _ _ _ hM hS (lv_sub hl [0, 2, 3] rfl)
          · refine lv_goto (tgt := 112) hx hb dX2_slides_36 (by decide) ?_
            refine lv_iinc (v := iI (k + 1)) (lv' := [(2, .int (iI (k + 1))), (3, .int (iI ((12 * lot) + k))), (0, .ref h), (1, .int (iI lot))]) hx hb dX2_slides_112 hl (k := 1) rfl (iI_add _ _) (by decide) rfl (fun ls hl => ?_)
            refine lv_goto (tgt := 2) hx hb dX2_slides_115 (by decide) ?_
            exact ih2 (k + 1) (va_up F 27 (fedT (F 27) (12 * lot) (slidS (F 9) (F 8) sl pl) k)) (by omega) (by omega) (by omega) (congrArg (va_up F 27) (fedT_skip hk0 (by rw [e27k]; unfold slidS; rw [if_pos (by omega)]))) _ _ _ hM hS (lv_sub hl [0, 2, 3] rfl)
  exact loop2_1 ((I 4 - 0 : Int).toNat + 1) 0 F (by omega) (by omega) (by omega) (by rw [fedT_0, up_self]) _ _ _ hM hS (lv_sub hl [0, 1, 2] rfl)
