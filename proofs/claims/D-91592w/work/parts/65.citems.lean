/-! THE COMPONENT: slices, weights, tanks, waves -/
set_option maxRecDepth 100000
theorem cVu_0 {nv : Nat → Nat} {F F1 : Nat → Int → Int} {S S1 : Nat → Nat → Int} {r k : Nat} (hk : nv 0 = k) (h64 : F1 64 = F 64) (h65 : F1 65 = F 65) (hS : S1 0 2 = S 0 2) (h : cV (va_up nv 0 (k + 1)) F1 S1 r) : cV nv F S r ∨ r = 3000 + k ∨ r = 3100 + k := by
  unfold cV at h
  rw [h64, h65, hS] at h
  rcases h with h | h | h | h | h | h | h | h | h
  · exact Or.inl (Or.inl h)
  · exact Or.inl (Or.inr (Or.inl h))
  · exact Or.inl (Or.inr (Or.inr (Or.inl h)))
  · rw [va_up_s] at h
    by_cases c : r = 3000 + k
    · exact Or.inr (Or.inl c)
    · exact Or.inl (Or.inr (Or.inr (Or.inr (Or.inl (by omega)))))
  · rw [va_up_s] at h
    by_cases c : r = 3100 + k
    · exact Or.inr (Or.inr c)
    · exact Or.inl (Or.inr (Or.inr (Or.inr (Or.inr (Or.inl (by omega))))))
  · exact Or.inl (Or.inr (Or.inr (Or.inr (Or.inr (Or.inr (Or.inl h))))))
  · exact Or.inl (Or.inr (Or.inr (Or.inr (Or.inr (Or.inr (Or.inr (Or.inl h)))))))
  · exact Or.inl (Or.inr (Or.inr (Or.inr (Or.inr (Or.inr (Or.inr (Or.inr (Or.inl h))))))))
  · exact Or.inl (Or.inr (Or.inr (Or.inr (Or.inr (Or.inr (Or.inr (Or.inr (Or.inr (h)))))))))
theorem cVu_1 {nv : Nat → Nat} {F F1 : Nat → Int → Int} {S S1 : Nat → Nat → Int} {r k : Nat} (hk : nv 1 = k) (h64 : F1 64 = F 64) (h65 : F1 65 = F 65) (hS : S1 0 2 = S 0 2) (h : cV (va_up nv 1 (k + 1)) F1 S1 r) : cV nv F S r ∨ r = 3200 + k := by
  unfold cV at h
  rw [h64, h65, hS] at h
  rcases h with h | h | h | h | h | h | h | h | h
  · exact Or.inl (Or.inl h)
  · exact Or.inl (Or.inr (Or.inl h))
  · exact Or.inl (Or.inr (Or.inr (Or.inl h)))
  · exact Or.inl (Or.inr (Or.inr (Or.inr (Or.inl h))))
  · exact Or.inl (Or.inr (Or.inr (Or.inr (Or.inr (Or.inl h)))))
  · rw [va_up_s] at h
    by_cases c : r = 3200 + k
    · exact Or.inr c
    · exact Or.inl (Or.inr (Or.inr (Or.inr (Or.inr (Or.inr (Or.inl (by omega)))))))
  · exact Or.inl (Or.inr (Or.inr (Or.inr (Or.inr (Or.inr (Or.inr (Or.inl h)))))))
  · exact Or.inl (Or.inr (Or.inr (Or.inr (Or.inr (Or.inr (Or.inr (Or.inr (Or.inl h))))))))
  · exact Or.inl (Or.inr (Or.inr (Or.inr (Or.inr (Or.inr (Or.inr (Or.inr (Or.inr (h)))))))))
theorem cVu_2 {nv : Nat → Nat} {F F1 : Nat → Int → Int} {S S1 : Nat → Nat → Int} {r k : Nat} (hk : nv 2 = k) (h64 : F1 64 = F 64) (h65 : F1 65 = F 65) (hS : S1 0 2 = S 0 2) (h : cV (va_up nv 2 (k + 1)) F1 S1 r) : cV nv F S r ∨ r = 3300 + k := by
  unfold cV at h
  rw [h64, h65, hS] at h
  rcases h with h | h | h | h | h | h | h | h | h
  · exact Or.inl (Or.inl h)
  · exact Or.inl (Or.inr (Or.inl h))
  · exact Or.inl (Or.inr (Or.inr (Or.inl h)))
  · exact Or.inl (Or.inr (Or.inr (Or.inr (Or.inl h))))
  · exact Or.inl (Or.inr (Or.inr (Or.inr (Or.inr (Or.inl h)))))
  · exact Or.inl (Or.inr (Or.inr (Or.inr (Or.inr (Or.inr (Or.inl h))))))
  · rw [va_up_s] at h
    by_cases c : r = 3300 + k
    · exact Or.inr c
    · exact Or.inl (Or.inr (Or.inr (Or.inr (Or.inr (Or.inr (Or.inr (Or.inl (by omega))))))))
  · exact Or.inl (Or.inr (Or.inr (Or.inr (Or.inr (Or.inr (Or.inr (Or.inr (Or.inl h))))))))
  · exact Or.inl (Or.inr (Or.inr (Or.inr (Or.inr (Or.inr (Or.inr (Or.inr (Or.inr (h)))))))))
theorem cVu_3 {nv : Nat → Nat} {F F1 : Nat → Int → Int} {S S1 : Nat → Nat → Int} {r k : Nat} (hk : nv 3 = k) (h64 : F1 64 = F 64) (h65 : F1 65 = F 65) (hS : S1 0 2 = S 0 2) (h : cV (va_up nv 3 (k + 1)) F1 S1 r) : cV nv F S r ∨ r = 3400 + k := by
  unfold cV at h
  rw [h64, h65, hS] at h
  rcases h with h | h | h | h | h | h | h | h | h
  · exact Or.inl (Or.inl h)
  · exact Or.inl (Or.inr (Or.inl h))
  · exact Or.inl (Or.inr (Or.inr (Or.inl h)))
  · exact Or.inl (Or.inr (Or.inr (Or.inr (Or.inl h))))
  · exact Or.inl (Or.inr (Or.inr (Or.inr (Or.inr (Or.inl h)))))
  · exact Or.inl (Or.inr (Or.inr (Or.inr (Or.inr (Or.inr (Or.inl h))))))
  · exact Or.inl (Or.inr (Or.inr (Or.inr (Or.inr (Or.inr (Or.inr (Or.inl h)))))))
  · rw [va_up_s] at h
    by_cases c : r = 3400 + k
    · exact Or.inr c
    · exact Or.inl (Or.inr (Or.inr (Or.inr (Or.inr (Or.inr (Or.inr (Or.inr (Or.inl (by omega)))))))))
  · exact Or.inl (Or.inr (Or.inr (Or.inr (Or.inr (Or.inr (Or.inr (Or.inr (Or.inr (h)))))))))
theorem upF_nz {F : Nat → Int → Int} {k j : Nat} {a v z : Int} (nz : z ≠ a) : upF F k a v j z = F j z := by
  unfold upF va_up
  split
  · rename_i h
    subst h
    exact updZ_n nz
  · rfl
theorem F1k_1 {I : Nat → Int} {F : Nat → Int → Int} {ma pl ht mk z : Int} {j : Nat} (nz : z ≠ I 4) : (upF (upF (upF (upF (upF F 5 (I 4) ma) 6 (I 4) pl) 27 (I 4) pl) 7 (I 4) ht) 8 (I 4) mk) j z = F j z := by
  repeat rw [upF_nz nz]
theorem F1k_2 {I : Nat → Int} {F : Nat → Int → Int} {wd ht hd z : Int} {j : Nat} (nz : z ≠ I 10) : (upF (upF (upF F 11 (I 10) wd) 12 (I 10) ht) 13 (I 10) hd) j z = F j z := by
  repeat rw [upF_nz nz]
theorem F1k_3 {I : Nat → Int} {F : Nat → Int → Int} {ht pr ph z : Int} {j : Nat} (nz : z ≠ I 18) : (upF (upF (upF F 19 (I 18) ht) 20 (I 18) pr) 21 (I 18) ph) j z = F j z := by
  repeat rw [upF_nz nz]
theorem sliceF_3 {I : Nat → Int} {F : Nat → Int → Int} {ln lo up : Int} : sliceF I F ln lo up 3 = updZ (updZ (updZ (updZ (updZ (updZ (updZ (updZ (updZ (updZ (F 3) (10 * I 1 + 4) (lo.tmod 10)) (10 * I 1 + 5 + 4) (up.tmod 10)) (10 * I 1 + 3) ((lo.tdiv 10).tmod 10)) (10 * I 1 + 5 + 3) ((up.tdiv 10).tmod 10)) (10 * I 1 + 2) (((lo.tdiv 10).tdiv 10).tmod 10)) (10 * I 1 + 5 + 2) (((up.tdiv 10).tdiv 10).tmod 10)) (10 * I 1 + 1) ((((lo.tdiv 10).tdiv 10).tdiv 10).tmod 10)) (10 * I 1 + 5 + 1) ((((up.tdiv 10).tdiv 10).tdiv 10).tmod 10)) (10 * I 1 + 0) (((((lo.tdiv 10).tdiv 10).tdiv 10).tdiv 10).tmod 10)) (10 * I 1 + 5 + 0) (((((up.tdiv 10).tdiv 10).tdiv 10).tdiv 10).tmod 10) := rfl
theorem sliceF_k {I : Nat → Int} {F : Nat → Int → Int} {ln lo up z : Int} {j : Nat} (n3 : j ≠ 3) (nz : z ≠ I 1) : sliceF I F ln lo up j z = F j z := by
  by_cases h2 : j = 2
  · subst h2
    show updZ (F 2) (I 1) ln z = F 2 z
    exact updZ_n nz
  · simp [sliceF, upF, va_up, n3, h2]
theorem sliceF_o {I : Nat → Int} {F : Nat → Int → Int} {ln lo up z : Int} (h : z < 10 * I 1 ∨ 10 * I 1 + 10 ≤ z) : sliceF I F ln lo up 3 z = F 3 z := by
  rw [sliceF_3]
  repeat rw [updZ_n (by omega)]
theorem dX0_slice_0 : decode cX0_slice 0 = .ok (.iload_n 1, 1) := by decide +kernel
theorem dX0_slice_1 : decode cX0_slice 1 = .ok (.i2l, 1) := by decide +kernel
theorem dX0_slice_2 : decode cX0_slice 2 = .ok (.lconst 1, 1) := by decide +kernel
theorem dX0_slice_3 : decode cX0_slice 3 = .ok (.ldc2_w 121, 3) := by decide +kernel
theorem dX0_slice_6 : decode cX0_slice 6 = .ok (.invokestatic 101, 3) := by decide +kernel
theorem dX0_slice_9 : decode cX0_slice 9 = .ok (.ifCond .eq 39, 3) := by decide +kernel
theorem dX0_slice_12 : decode cX0_slice 12 = .ok (.iload_n 2, 1) := by decide +kernel
theorem dX0_slice_13 : decode cX0_slice 13 = .ok (.i2l, 1) := by decide +kernel
theorem dX0_slice_14 : decode cX0_slice 14 = .ok (.lconst 0, 1) := by decide +kernel
theorem dX0_slice_15 : decode cX0_slice 15 = .ok (.ldc2_w 123, 3) := by decide +kernel
theorem dX0_slice_18 : decode cX0_slice 18 = .ok (.invokestatic 101, 3) := by decide +kernel
theorem dX0_slice_21 : decode cX0_slice 21 = .ok (.ifCond .eq 27, 3) := by decide +kernel
theorem dX0_slice_24 : decode cX0_slice 24 = .ok (.iload_n 3, 1) := by decide +kernel
theorem dX0_slice_25 : decode cX0_slice 25 = .ok (.i2l, 1) := by decide +kernel
theorem dX0_slice_26 : decode cX0_slice 26 = .ok (.lconst 0, 1) := by decide +kernel
theorem dX0_slice_27 : decode cX0_slice 27 = .ok (.ldc2_w 123, 3) := by decide +kernel
theorem dX0_slice_30 : decode cX0_slice 30 = .ok (.invokestatic 101, 3) := by decide +kernel
theorem dX0_slice_33 : decode cX0_slice 33 = .ok (.ifCond .eq 15, 3) := by decide +kernel
theorem dX0_slice_36 : decode cX0_slice 36 = .ok (.aload_n 0, 1) := by decide +kernel
theorem dX0_slice_37 : decode cX0_slice 37 = .ok (.getfield 34, 3) := by decide +kernel
theorem dX0_slice_40 : decode cX0_slice 40 = .ok (.invokevirtual 125, 3) := by decide +kernel
theorem dX0_slice_43 : decode cX0_slice 43 = .ok (.bipush 6, 2) := by decide +kernel
theorem dX0_slice_45 : decode cX0_slice 45 = .ok (.if_icmp .ne 5, 3) := by decide +kernel
theorem dX0_slice_48 : decode cX0_slice 48 = .ok (.iconst (-1), 1) := by decide +kernel
theorem dX0_slice_49 : decode cX0_slice 49 = .ok (.ireturn, 1) := by decide +kernel
theorem dX0_slice_50 : decode cX0_slice 50 = .ok (.new 129, 3) := by decide +kernel
theorem dX0_slice_53 : decode cX0_slice 53 = .ok (.dup, 1) := by decide +kernel
theorem dX0_slice_54 : decode cX0_slice 54 = .ok (.iload_n 1, 1) := by decide +kernel
theorem dX0_slice_55 : decode cX0_slice 55 = .ok (.invokespecial 131, 3) := by decide +kernel
theorem dX0_slice_58 : decode cX0_slice 58 = .ok (.astore 4, 2) := by decide +kernel
theorem dX0_slice_60 : decode cX0_slice 60 = .ok (.iload_n 2, 1) := by decide +kernel
theorem dX0_slice_61 : decode cX0_slice 61 = .ok (.istore 5, 2) := by decide +kernel
theorem dX0_slice_63 : decode cX0_slice 63 = .ok (.iload_n 3, 1) := by decide +kernel
theorem dX0_slice_64 : decode cX0_slice 64 = .ok (.istore 6, 2) := by decide +kernel
theorem dX0_slice_66 : decode cX0_slice 66 = .ok (.iconst 4, 1) := by decide +kernel
theorem dX0_slice_67 : decode cX0_slice 67 = .ok (.istore 7, 2) := by decide +kernel
theorem dX0_slice_69 : decode cX0_slice 69 = .ok (.iload 7, 2) := by decide +kernel
theorem dX0_slice_71 : decode cX0_slice 71 = .ok (.ifCond .lt 51, 3) := by decide +kernel
theorem dX0_slice_74 : decode cX0_slice 74 = .ok (.aload 4, 2) := by decide +kernel
theorem dX0_slice_76 : decode cX0_slice 76 = .ok (.getfield 132, 3) := by decide +kernel
theorem dX0_slice_79 : decode cX0_slice 79 = .ok (.iload 7, 2) := by decide +kernel
theorem dX0_slice_81 : decode cX0_slice 81 = .ok (.iload 5, 2) := by decide +kernel
theorem dX0_slice_83 : decode cX0_slice 83 = .ok (.bipush 10, 2) := by decide +kernel
theorem dX0_slice_85 : decode cX0_slice 85 = .ok (.irem, 1) := by decide +kernel
theorem dX0_slice_86 : decode cX0_slice 86 = .ok (.iastore, 1) := by decide +kernel
theorem dX0_slice_87 : decode cX0_slice 87 = .ok (.aload 4, 2) := by decide +kernel
theorem dX0_slice_89 : decode cX0_slice 89 = .ok (.getfield 132, 3) := by decide +kernel
theorem dX0_slice_92 : decode cX0_slice 92 = .ok (.iload 7, 2) := by decide +kernel
theorem dX0_slice_94 : decode cX0_slice 94 = .ok (.iconst 5, 1) := by decide +kernel
theorem dX0_slice_95 : decode cX0_slice 95 = .ok (.iadd, 1) := by decide +kernel
theorem dX0_slice_96 : decode cX0_slice 96 = .ok (.iload 6, 2) := by decide +kernel
theorem dX0_slice_98 : decode cX0_slice 98 = .ok (.bipush 10, 2) := by decide +kernel
theorem dX0_slice_100 : decode cX0_slice 100 = .ok (.irem, 1) := by decide +kernel
theorem dX0_slice_101 : decode cX0_slice 101 = .ok (.iastore, 1) := by decide +kernel
theorem dX0_slice_102 : decode cX0_slice 102 = .ok (.iload 5, 2) := by decide +kernel
theorem dX0_slice_104 : decode cX0_slice 104 = .ok (.bipush 10, 2) := by decide +kernel
theorem dX0_slice_106 : decode cX0_slice 106 = .ok (.idiv, 1) := by decide +kernel
theorem dX0_slice_107 : decode cX0_slice 107 = .ok (.istore 5, 2) := by decide +kernel
theorem dX0_slice_109 : decode cX0_slice 109 = .ok (.iload 6, 2) := by decide +kernel
theorem dX0_slice_111 : decode cX0_slice 111 = .ok (.bipush 10, 2) := by decide +kernel
theorem dX0_slice_113 : decode cX0_slice 113 = .ok (.idiv, 1) := by decide +kernel
theorem dX0_slice_114 : decode cX0_slice 114 = .ok (.istore 6, 2) := by decide +kernel
theorem dX0_slice_116 : decode cX0_slice 116 = .ok (.iinc 7 (-1), 3) := by decide +kernel
theorem dX0_slice_119 : decode cX0_slice 119 = .ok (.goto (-50), 3) := by decide +kernel
theorem dX0_slice_122 : decode cX0_slice 122 = .ok (.aload_n 0, 1) := by decide +kernel
theorem dX0_slice_123 : decode cX0_slice 123 = .ok (.getfield 34, 3) := by decide +kernel
theorem dX0_slice_126 : decode cX0_slice 126 = .ok (.aload 4, 2) := by decide +kernel
theorem dX0_slice_128 : decode cX0_slice 128 = .ok (.invokevirtual 135, 3) := by decide +kernel
theorem dX0_slice_131 : decode cX0_slice 131 = .ok (.istore 7, 2) := by decide +kernel
theorem dX0_slice_133 : decode cX0_slice 133 = .ok (.aload_n 0, 1) := by decide +kernel
theorem dX0_slice_134 : decode cX0_slice 134 = .ok (.getfield 34, 3) := by decide +kernel
theorem dX0_slice_137 : decode cX0_slice 137 = .ok (.invokevirtual 125, 3) := by decide +kernel
theorem dX0_slice_140 : decode cX0_slice 140 = .ok (.iconst 1, 1) := by decide +kernel
theorem dX0_slice_141 : decode cX0_slice 141 = .ok (.isub, 1) := by decide +kernel
theorem dX0_slice_142 : decode cX0_slice 142 = .ok (.ireturn, 1) := by decide +kernel
set_option maxHeartbeats 4000000 in
theorem cslice (l : Launch) (adK adV st : Nat → Nat) (D : va_G) (E : Nat → ClassId) (A : Nat → Prop) (ad nv : Nat → Nat) (I : Nat → Int) (F : Nat → Int → Int) (S : Nat → Nat → Int) (Y : Nat → Int → Int) (L : Nat → Nat) (ln lo up : Int) (r_ln : R32 ln) (r_lo : R32 lo) (r_up : R32 up) (hn : cOK nv I L) (gh0 : gHull I F) (gl0 : gLoad I F) (gs0 : gSea I F) (hcap : 4 ≤ L 15 ∧ L 15 ≤ 20)  : AM l yX0_slice cX0_slice 8 (some .int) (amr 8 3 42) adK adV st D E A [.ref (ad 0), .int (iI ln), .int (iI lo), .int (iI up)] (cV nv F S) ad (cC E ad I F S Y L) (AQi D E A (fun z ad1 V1 C1 => (((1 ≤ ln ∧ ln ≤ 20) ∧ (0 ≤ lo ∧ lo ≤ 99999) ∧ (0 ≤ up ∧ up ≤ 99999) ∧ I 1 ≠ 6) ∧ I 1 = z ∧ ∃ cap1, V1 = cV (va_up nv 0 (nv 0 + 1)) (sliceF I F ln lo up) (up2 S 11 0 (S 11 0 + 1)) ∧ C1 = cC E ad1 (va_up I 1 (I 1 + 1)) (sliceF I F ln lo up) (up2 S 11 0 (S 11 0 + 1)) Y (va_up L 15 cap1) ∧ (4 ≤ cap1 ∧ cap1 ≤ 20) ∧ I 1 + 1 ≤ (cap1 : Int)) ∨ (¬ ((1 ≤ ln ∧ ln ≤ 20) ∧ (0 ≤ lo ∧ lo ≤ 99999) ∧ (0 ≤ up ∧ up ≤ 99999) ∧ I 1 ≠ 6) ∧ -1 = z ∧ ad = ad1 ∧ V1 = cV nv F S ∧ C1 = cC E ad I F S Y L))) 3 42 := by
  refine a_start (by decide) rfl (Nat.le_of_ble_eq_true rfl) ?_
  intro p e R s m args below meth c ls Q hR hQ hCK hml hr hlk hnme hG hS hE hA hl
  have hx := hCK.1
  have hb := hCK.2.1
  have hown := hCK.2.2.1
  have hts := hCK.2.2.2.1
  have hK := hCK.2.2.2.2
  have hl : lv_has ls 8 [(0, .ref (ad 0)), (1, .int (iI ln)), (2, .int (iI lo)), (3, .int (iI up))] := hl
  obtain ⟨⟨n0, n1, n2, n3⟩, ⟨l0, l1, l2, l3⟩, c0, c1, c2, c3⟩ := id hn
  have b1 := gh0.1
  have b4 := gl0.1
  have b10 := gl0.2.2.2.2.2.2.1
  have b18 := gs0.1
  have v_mn : cV nv F S 0 := Or.inl (by decide)
  have e_mn : ad 0 = ad 0 := rfl
  have k_mn : cC E ad I F S Y L 0 = .inr (0, [.ref (ad 1), .int (iI (I 48)), (if S 0 2 = 0 then .null else .ref (ad 30)), .ref (ad 2), .ref (ad 3), .ref (ad 11), .ref (ad 12), .ref (ad 13), .ref (ad 14), .ref (ad 4), .ref (ad 5), .int (iI (I 15)), .int (iI (I 22)), .int (iI (I 23)), .int (iI (I 24)), .int (iI (I 25)), .ref (ad 19), .ref (ad 20), .ref (ad 9), .ref (ad 6), .ref (ad 7), .ref (ad 10), .int (iI (I 41)), .int (iI (I 44)), .ref (ad 8), .int (iI (I 45))]) := cC_0
  have v_li : cV nv F S 11 := Or.inl (by decide)
  have e_li : ad 11 = ad 11 := rfl
  have k_li : cC E ad I F S Y L 11 = .inr (10, [.int (iI (S 11 0)), .ref (ad 15), .int (iI (I 1))]) := cC_l (by decide)
  have v_ar : cV nv F S 15 := Or.inl (by decide)
  have e_ar : ad 15 = ad 15 := rfl
  have k_ar : cC E ad I F S Y L 15 = .inl (E 5, (L 15), ar (fun j => if (j : Int) < I 1 then some (ad (3000 + j)) else none)) := cC_e (by decide)
  refine lv_iload_n hx hb dX0_slice_0 rfl (lv_at hl 1 rfl) ?_
  refine r_i2l hx hb dX0_slice_1 r_ln ?_
  refine r_lconst hx hb 1 dX0_slice_2 (by decide) ?_
  refine r_ldc2 hx hb 20 hown (hts _ q639) (by decide) dX0_slice_3 ?_
  refine s_calli (j_runS (n := 3) (rest := []) (as := [.long (iL ln), .long (iL 1), .long (iL 20)]) hx hb hml hown hts ((cin l ln 1 20 (by omega) (by decide) (by decide)).jm) (fun _ _ _ _ _ => trivial) (fun _ _ _ => trivial) q296 q297 q68 q298 (by decide +kernel) ⟨rfl, rfl⟩ hR ⟨Nat.le_of_ble_eq_true rfl, Nat.le_of_ble_eq_true rfl⟩ ⟨Nat.zero_le _, Nat.zero_le _⟩ rfl hl.1 rfl (Nat.le_of_ble_eq_true rfl) dX0_slice_6) ?_
  refine r_ifeqB (tgt := 48) hx hb dX0_slice_9 (by decide) (fun c1 => ?_) (fun c1 => ?_)
  · refine r_iconst hx hb dX0_slice_48 ?_
    exact a_iret hCK hQ hr hlk hG hS (by omega) (by omega) dX0_slice_49 (Or.inr ⟨by omega, rfl, rfl, rfl, rfl⟩)
  · refine lv_iload_n hx hb dX0_slice_12 rfl (lv_at hl 2 rfl) ?_
    refine r_i2l hx hb dX0_slice_13 r_lo ?_
    refine r_lconst hx hb 0 dX0_slice_14 (by decide) ?_
    refine r_ldc2 hx hb 99999 hown (hts _ q640) (by decide) dX0_slice_15 ?_
    refine s_calli (j_runS (n := 3) (rest := []) (as := [.long (iL lo), .long (iL 0), .long (iL 99999)]) hx hb hml hown hts ((cin l lo 0 99999 (by omega) (by decide) (by decide)).jm) (fun _ _ _ _ _ => trivial) (fun _ _ _ => trivial) q296 q297 q68 q298 (by decide +kernel) ⟨rfl, rfl⟩ hR ⟨Nat.le_of_ble_eq_true rfl, Nat.le_of_ble_eq_true rfl⟩ ⟨Nat.zero_le _, Nat.zero_le _⟩ rfl hl.1 rfl (Nat.le_of_ble_eq_true rfl) dX0_slice_18) ?_
    refine r_ifeqB (tgt := 48) hx hb dX0_slice_21 (by decide) (fun c2 => ?_) (fun c2 => ?_)
    · refine r_iconst hx hb dX0_slice_48 ?_
      exact a_iret hCK hQ hr hlk hG hS (by omega) (by omega) dX0_slice_49 (Or.inr ⟨by omega, rfl, rfl, rfl, rfl⟩)
    · refine lv_iload_n hx hb dX0_slice_24 rfl (lv_at hl 3 rfl) ?_
      refine r_i2l hx hb dX0_slice_25 r_up ?_
      refine r_lconst hx hb 0 dX0_slice_26 (by decide) ?_
      refine r_ldc2 hx hb 99999 hown (hts _ q640) (by decide) dX0_slice_27 ?_
      refine s_calli (j_runS (n := 3) (rest := []) (as := [.long (iL up), .long (iL 0), .long (iL 99999)]) hx hb hml hown hts ((cin l up 0 99999 (by omega) (by decide) (by decide)).jm) (fun _ _ _ _ _ => trivial) (fun _ _ _ => trivial) q296 q297 q68 q298 (by decide +kernel) ⟨rfl, rfl⟩ hR ⟨Nat.le_of_ble_eq_true rfl, Nat.le_of_ble_eq_true rfl⟩ ⟨Nat.zero_le _, Nat.zero_le _⟩ rfl hl.1 rfl (Nat.le_of_ble_eq_true rfl) dX0_slice_30) ?_
      refine r_ifeqB (tgt := 48) hx hb dX0_slice_33 (by decide) (fun c3 => ?_) (fun c3 => ?_)
      · refine r_iconst hx hb dX0_slice_48 ?_
        exact a_iret hCK hQ hr hlk hG hS (by omega) (by omega) dX0_slice_49 (Or.inr ⟨by omega, rfl, rfl, rfl, rfl⟩)
      · refine lv_aload_n hx hb dX0_slice_36 rfl (lv_at hl 0 rfl) ?_
        refine a_get hCK hG 0 e_mn v_mn k_mn (ci := 0) rfl in_X0 5 (by decide) q202 rfl rfl dX0_slice_37 ?_
        refine W.eq (g2 := F0 m 40 ls [.ref (ad 11)]) rfl ?_
        refine s_calli (j_runV (n := 0) (C := RJ2) (b := ad 11) (rest := []) (as := []) hx hb hml hown hts ((by have h := met_lsize l adK adV st D E A (cV nv F S) ad (cC E ad I F S Y L) 11 15 (S 11 0) (I 1) v_li (by rw [e_ar]; exact k_li); rw [e_li] at h; exact h)) GB.blind (GB.at hK hG hE hS) (by have h := g_rec (r := 11) (ci := 10) hK hG v_li rfl k_li; rw [e_li] at h; exact h) q641 q614 q615 q71 q616 (by decide +kernel) ⟨rfl, rfl⟩ hR ⟨Nat.le_of_ble_eq_true rfl, Nat.le_of_ble_eq_true rfl⟩ ⟨Nat.zero_le _, Nat.zero_le _⟩ rfl hl.1 rfl (Nat.le_of_ble_eq_true rfl) dX0_slice_40) ?_
        refine r_bipush hx hb dX0_slice_43 (by decide) ?_
        refine r_icmp_ne (tgt := 50) hx hb dX0_slice_45 (by decide) (by omega) (by decide) (fun c4 => ?_) (fun c4 => ?_)
        · obtain ⟨k, hk⟩ : ∃ k : Nat, I 1 = (k : Int) := ⟨(I 1).toNat, by omega⟩
          have hkn : nv 0 = k := by omega
          have hk12 : k < 6 := by omega
          have hnk : ¬ cV nv F S (3000 + k) := by unfold cV; omega
          have hnh : ¬ cV nv F S (3100 + k) := by unfold cV; omega
          have hn29 : ¬ cV nv F S 29 := by unfold cV; omega
          have hel : elOK (cV nv F S) ad (cC E ad I F S Y L) 11 15 (fun j : Nat => if (j : Int) < I 1 then some (ad (3000 + j)) else none) := by
            intro i y hy
            by_cases ci : (i : Int) < I 1
            · have hy : (if (i : Int) < I 1 then some (ad (3000 + i)) else none) = some y := hy
              rw [if_pos ci] at hy
              cases hy
              exact ⟨3000 + i, rfl, by unfold cV; omega, by omega, by omega, 3, _, _, cC_sl (by omega), rfl, q1548⟩
            · have hy : (if (i : Int) < I 1 then some (ad (3000 + i)) else none) = some y := hy
              rw [if_neg ci] at hy
              cases hy
          have hOa : ∀ q, (q ≠ 3000 + k ∧ q ≠ 3100 + k) → ad q = ad q := fun _ _ => rfl
          have hOc : ∀ q, (q ≠ 3000 + k ∧ q ≠ 3100 + k) → cC E ad I F S Y L q = cC E ad I F S Y L q := fun _ _ => rfl
          refine a_new (ci := 3) (fs := [.int (iI 0), .null]) tyX3 hCK hG hS hA (3000 + k) in_X3 tyX3_ok q642 q643 q74 rfl (by decide) (by rw [hR]; show _ ≤ _; (try unfold amr); (try simp only []); omega) (by rw [hR]; show _ ≤ _; (try unfold amr); (try simp only []); omega) dX0_slice_50 (fun x5 ad6 C7 H e_it k_it oo10 hG hS oh11 => ?_)
          obtain ⟨V12, hV12⟩ : ∃ X : Nat → Prop, X = fun q => (cV nv F S) q ∨ q = 3000 + k := ⟨_, rfl⟩
          rw [← hV12] at hG
          have v_mn : V12 0 := by rw [hV12]; exact Or.inl v_mn
          have e_mn : ad6 0 = ad 0 := (oo10 0 (by omega)).1.trans e_mn
          have k_mn : C7 0 = .inr (0, [.ref (ad 1), .int (iI (I 48)), (if S 0 2 = 0 then .null else .ref (ad 30)), .ref (ad 2), .ref (ad 3), .ref (ad 11), .ref (ad 12), .ref (ad 13), .ref (ad 14), .ref (ad 4), .ref (ad 5), .int (iI (I 15)), .int (iI (I 22)), .int (iI (I 23)), .int (iI (I 24)), .int (iI (I 25)), .ref (ad 19), .ref (ad 20), .ref (ad 9), .ref (ad 6), .ref (ad 7), .ref (ad 10), .int (iI (I 41)), .int (iI (I 44)), .ref (ad 8), .int (iI (I 45))]) := (oo10 0 (by omega)).2.trans k_mn
          have v_li : V12 11 := by rw [hV12]; exact Or.inl v_li
          have e_li : ad6 11 = ad 11 := (oo10 11 (by omega)).1.trans e_li
          have k_li : C7 11 = .inr (10, [.int (iI (S 11 0)), .ref (ad 15), .int (iI (I 1))]) := (oo10 11 (by omega)).2.trans k_li
          have v_ar : V12 15 := by rw [hV12]; exact Or.inl v_ar
          have e_ar : ad6 15 = ad 15 := (oo10 15 (by omega)).1.trans e_ar
          have k_ar : C7 15 = .inl (E 5, (L 15), ar (fun j => if (j : Int) < I 1 then some (ad (3000 + j)) else none)) := (oo10 15 (by omega)).2.trans k_ar
          have v_it : V12 (3000 + k) := by rw [hV12]; exact Or.inr rfl
          have hOa : ∀ q, (q ≠ 3000 + k ∧ q ≠ 3100 + k) → ad6 q = ad q := fun q hq => (oo10 q (by omega)).1.trans (hOa q hq)
          have hOc : ∀ q, (q ≠ 3000 + k ∧ q ≠ 3100 + k) → C7 q = (cC E ad I F S Y L) q := fun q hq => (oo10 q (by omega)).2.trans (hOc q hq)
          refine lv_dup hx hb dX0_slice_53 rfl ?_
          refine lv_iload_n hx hb dX0_slice_54 rfl (lv_at hl 1 rfl) ?_
          refine a_callv (a_runI (n := 1) (b := x5) (rest := [.ref x5]) (as := [.int (iI ln)]) hCK hE hA hml (met_xi3 l adK adV st D E A V12 ad6 C7 (3000 + k) x5 (3100 + k) ln (by omega) v_it e_it k_it) q644 q645 q74 q646 rfl (by decide +kernel) ⟨rfl, rfl⟩ hR ⟨Nat.le_of_ble_eq_true rfl, Nat.le_of_ble_eq_true rfl⟩ ⟨(by rw [hR]; show _ ≤ _; (try unfold amr); (try simp only []); omega), (by rw [hR]; show _ ≤ _; (try unfold amr); (try simp only []); omega)⟩ hG hS rfl hl.1 rfl (Nat.le_of_ble_eq_true rfl) dX0_slice_55) hS (fun ad14 V15 C16 H locs hp17 hG hS => ?_)
          obtain ⟨hV18, k_ha, k_it, oo19, oo20⟩ := hp17
          obtain ⟨x21, e_ha⟩ : ∃ y, ad14 (3100 + k) = y := ⟨_, rfl⟩
          rw [e_ha] at k_it
          have v_mn : V15 0 := by rw [hV18]; exact Or.inl v_mn
          have e_mn : ad14 0 = ad 0 := (oo19 0 (by omega)).trans e_mn
          have k_mn : C16 0 = .inr (0, [.ref (ad 1), .int (iI (I 48)), (if S 0 2 = 0 then .null else .ref (ad 30)), .ref (ad 2), .ref (ad 3), .ref (ad 11), .ref (ad 12), .ref (ad 13), .ref (ad 14), .ref (ad 4), .ref (ad 5), .int (iI (I 15)), .int (iI (I 22)), .int (iI (I 23)), .int (iI (I 24)), .int (iI (I 25)), .ref (ad 19), .ref (ad 20), .ref (ad 9), .ref (ad 6), .ref (ad 7), .ref (ad 10), .int (iI (I 41)), .int (iI (I 44)), .ref (ad 8), .int (iI (I 45))]) := (oo20 0 (by omega) (by omega)).trans k_mn
          have v_li : V15 11 := by rw [hV18]; exact Or.inl v_li
          have e_li : ad14 11 = ad 11 := (oo19 11 (by omega)).trans e_li
          have k_li : C16 11 = .inr (10, [.int (iI (S 11 0)), .ref (ad 15), .int (iI (I 1))]) := (oo20 11 (by omega) (by omega)).trans k_li
          have v_ar : V15 15 := by rw [hV18]; exact Or.inl v_ar
          have e_ar : ad14 15 = ad 15 := (oo19 15 (by omega)).trans e_ar
          have k_ar : C16 15 = .inl (E 5, (L 15), ar (fun j => if (j : Int) < I 1 then some (ad (3000 + j)) else none)) := (oo20 15 (by omega) (by omega)).trans k_ar
          have v_it : V15 (3000 + k) := by rw [hV18]; exact Or.inl v_it
          have e_it : ad14 (3000 + k) = x5 := (oo19 (3000 + k) (by omega)).trans e_it
          have v_ha : V15 (3100 + k) := by rw [hV18]; exact Or.inr rfl
          have hOa : ∀ q, (q ≠ 3000 + k ∧ q ≠ 3100 + k) → ad14 q = ad q := fun q hq => (oo19 q (by omega)).trans (hOa q hq)
          have hOc : ∀ q, (q ≠ 3000 + k ∧ q ≠ 3100 + k) → C16 q = (cC E ad I F S Y L) q := fun q hq => (oo20 q (by omega) (by omega)).trans (hOc q hq)
          refine lv_astore (lv' := [(4, .ref x5), (0, .ref (ad 0)), (1, .int (iI ln)), (2, .int (iI lo)), (3, .int (iI up))]) hx hb dX0_slice_58 hl (by decide) rfl (fun ls hl => ?_)
          refine lv_iload_n hx hb dX0_slice_60 rfl (lv_at hl 3 rfl) ?_
          refine lv_istore (lv' := [(5, .int (iI lo)), (4, .ref x5), (0, .ref (ad 0)), (1, .int (iI ln)), (2, .int (iI lo)), (3, .int (iI up))]) hx hb dX0_slice_61 hl (by decide) rfl (fun ls hl => ?_)
          refine lv_iload_n hx hb dX0_slice_63 rfl (lv_at hl 5 rfl) ?_
          refine lv_istore (lv' := [(6, .int (iI up)), (5, .int (iI lo)), (4, .ref x5), (0, .ref (ad 0)), (1, .int (iI ln)), (2, .int (iI lo)), (3, .int (iI up))]) hx hb dX0_slice_64 hl (by decide) rfl (fun ls hl => ?_)
          refine r_iconst hx hb dX0_slice_66 ?_
          refine lv_istore (lv' := [(7, .int (iI 4)), (6, .int (iI up)), (5, .int (iI lo)), (4, .ref x5), (0, .ref (ad 0)), (1, .int (iI ln)), (2, .int (iI lo)), (3, .int (iI up))]) hx hb dX0_slice_67 hl (by decide) rfl (fun ls hl => ?_)
          refine lv_iload hx hb dX0_slice_69 (lv_at hl 0 rfl) ?_
          refine r_if_lt (tgt := 122) hx hb dX0_slice_71 (by decide) (by decide) (fun c22 => absurd c22 (by decide)) (fun c22 => ?_)
          refine lv_aload hx hb dX0_slice_74 (lv_at hl 3 rfl) ?_
          refine a_getN hCK hE hG (3000 + k) e_it v_it k_it (ci := 3) rfl in_X3 1 (by decide) q651 rfl rfl dX0_slice_76 ?_
          refine W.eq (g2 := F0 m 79 ls [.ref x21]) rfl ?_
          refine lv_iload hx hb dX0_slice_79 (lv_at hl 0 rfl) ?_
          refine lv_iload hx hb dX0_slice_81 (lv_at hl 2 rfl) ?_
          refine r_bipush hx hb dX0_slice_83 (by decide) ?_
          refine r_irem hx hb dX0_slice_85 r_lo (by decide) (by decide) ?_
          refine a_ist (v := lo.tmod 10) hCK hG hS (3100 + k) e_ha v_ha k_ha (by decide) (by decide) dX0_slice_86 (fun C23 H locs kk24 oo25 hG hS => ?_)
          have k_ha : C23 (3100 + k) = .inl (E 0, 10, ai (updZ (fun _ => 0) 4 (lo.tmod 10))) := kk24
          have k_mn : C23 0 = .inr (0, [.ref (ad 1), .int (iI (I 48)), (if S 0 2 = 0 then .null else .ref (ad 30)), .ref (ad 2), .ref (ad 3), .ref (ad 11), .ref (ad 12), .ref (ad 13), .ref (ad 14), .ref (ad 4), .ref (ad 5), .int (iI (I 15)), .int (iI (I 22)), .int (iI (I 23)), .int (iI (I 24)), .int (iI (I 25)), .ref (ad 19), .ref (ad 20), .ref (ad 9), .ref (ad 6), .ref (ad 7), .ref (ad 10), .int (iI (I 41)), .int (iI (I 44)), .ref (ad 8), .int (iI (I 45))]) := (oo25 0 (by omega)).trans k_mn
          have k_li : C23 11 = .inr (10, [.int (iI (S 11 0)), .ref (ad 15), .int (iI (I 1))]) := (oo25 11 (by omega)).trans k_li
          have k_ar : C23 15 = .inl (E 5, (L 15), ar (fun j => if (j : Int) < I 1 then some (ad (3000 + j)) else none)) := (oo25 15 (by omega)).trans k_ar
          have k_it : C23 (3000 + k) = .inr (3, [.int (iI ln), .ref x21]) := (oo25 (3000 + k) (by omega)).trans k_it
          have hOa : ∀ q, (q ≠ 3000 + k ∧ q ≠ 3100 + k) → ad14 q = ad q := hOa
          have hOc : ∀ q, (q ≠ 3000 + k ∧ q ≠ 3100 + k) → C23 q = (cC E ad I F S Y L) q := fun q hq => (oo25 q (by omega)).trans (hOc q hq)
          refine lv_aload hx hb dX0_slice_87 (lv_at hl 3 rfl) ?_
          refine a_getN hCK hE hG (3000 + k) e_it v_it k_it (ci := 3) rfl in_X3 1 (by decide) q651 rfl rfl dX0_slice_89 ?_
          refine W.eq (g2 := F0 m 92 ls [.ref x21]) rfl ?_
          refine lv_iload hx hb dX0_slice_92 (lv_at hl 0 rfl) ?_
          refine r_iconst hx hb dX0_slice_94 ?_
          refine r_iadd hx hb dX0_slice_95 ?_
          refine lv_iload hx hb dX0_slice_96 (lv_at hl 1 rfl) ?_
          refine r_bipush hx hb dX0_slice_98 (by decide) ?_
          refine r_irem hx hb dX0_slice_100 r_up (by decide) (by decide) ?_
          refine a_ist (v := up.tmod 10) hCK hG hS (3100 + k) e_ha v_ha k_ha (by decide) (by omega) dX0_slice_101 (fun C26 H locs kk27 oo28 hG hS => ?_)
          have k_ha : C26 (3100 + k) = .inl (E 0, 10, ai (updZ (updZ (fun _ => 0) 4 (lo.tmod 10)) (4 + 5) (up.tmod 10))) := kk27
          have k_mn : C26 0 = .inr (0, [.ref (ad 1), .int (iI (I 48)), (if S 0 2 = 0 then .null else .ref (ad 30)), .ref (ad 2), .ref (ad 3), .ref (ad 11), .ref (ad 12), .ref (ad 13), .ref (ad 14), .ref (ad 4), .ref (ad 5), .int (iI (I 15)), .int (iI (I 22)), .int (iI (I 23)), .int (iI (I 24)), .int (iI (I 25)), .ref (ad 19), .ref (ad 20), .ref (ad 9), .ref (ad 6), .ref (ad 7), .ref (ad 10), .int (iI (I 41)), .int (iI (I 44)), .ref (ad 8), .int (iI (I 45))]) := (oo28 0 (by omega)).trans k_mn
          have k_li : C26 11 = .inr (10, [.int (iI (S 11 0)), .ref (ad 15), .int (iI (I 1))]) := (oo28 11 (by omega)).trans k_li
          have k_ar : C26 15 = .inl (E 5, (L 15), ar (fun j => if (j : Int) < I 1 then some (ad (3000 + j)) else none)) := (oo28 15 (by omega)).trans k_ar
          have k_it : C26 (3000 + k) = .inr (3, [.int (iI ln), .ref x21]) := (oo28 (3000 + k) (by omega)).trans k_it
          have hOa : ∀ q, (q ≠ 3000 + k ∧ q ≠ 3100 + k) → ad14 q = ad q := hOa
          have hOc : ∀ q, (q ≠ 3000 + k ∧ q ≠ 3100 + k) → C26 q = (cC E ad I F S Y L) q := fun q hq => (oo28 q (by omega)).trans (hOc q hq)
          refine lv_iload hx hb dX0_slice_102 (lv_at hl 2 rfl) ?_
          refine r_bipush hx hb dX0_slice_104 (by decide) ?_
          refine r_idiv hx hb dX0_slice_106 r_lo (by decide) (by decide) ?_
          refine lv_istore (lv' := [(5, .int (iI (lo.tdiv 10))), (7, .int (iI 4)), (6, .int (iI up)), (4, .ref x5), (0, .ref (ad 0)), (1, .int (iI ln)), (2, .int (iI lo)), (3, .int (iI up))]) hx hb dX0_slice_107 hl (by decide) rfl (fun ls hl => ?_)
          refine lv_iload hx hb dX0_slice_109 (lv_at hl 2 rfl) ?_
          refine r_bipush hx hb dX0_slice_111 (by decide) ?_
          refine r_idiv hx hb dX0_slice_113 r_up (by decide) (by decide) ?_
          refine lv_istore (lv' := [(6, .int (iI (up.tdiv 10))), (5, .int (iI (lo.tdiv 10))), (7, .int (iI 4)), (4, .ref x5), (0, .ref (ad 0)), (1, .int (iI ln)), (2, .int (iI lo)), (3, .int (iI up))]) hx hb dX0_slice_114 hl (by decide) rfl (fun ls hl => ?_)
          refine lv_iinc (v := iI (4 + (-1))) (lv' := [(7, .int (iI (4 + (-1)))), (6, .int (iI (up.tdiv 10))), (5, .int (iI (lo.tdiv 10))), (4, .ref x5), (0, .ref (ad 0)), (1, .int (iI ln)), (2, .int (iI lo)), (3, .int (iI up))]) hx hb dX0_slice_116 hl (k := 2) rfl (iI_add _ _) (by decide) rfl (fun ls hl => ?_)
          refine lv_goto (tgt := 69) hx hb dX0_slice_119 (by decide) ?_
          have hl : lv_has ls 8 [(7, .int (iI 3)), (6, .int (iI (up.tdiv 10))), (5, .int (iI (lo.tdiv 10))), (4, .ref x5), (0, .ref (ad 0)), (1, .int (iI ln)), (2, .int (iI lo)), (3, .int (iI up))] := hl
          have hb29 := tdiv_bd (a := lo) (b := 10) (M := 99999) (by decide) (by omega)
          have hb30 := tdiv_bd (a := up) (b := 10) (M := 99999) (by decide) (by omega)
          refine lv_iload hx hb dX0_slice_69 (lv_at hl 0 rfl) ?_
          refine r_if_lt (tgt := 122) hx hb dX0_slice_71 (by decide) (by decide) (fun c31 => absurd c31 (by decide)) (fun c31 => ?_)
          refine lv_aload hx hb dX0_slice_74 (lv_at hl 3 rfl) ?_
          refine a_getN hCK hE hG (3000 + k) e_it v_it k_it (ci := 3) rfl in_X3 1 (by decide) q651 rfl rfl dX0_slice_76 ?_
          refine W.eq (g2 := F0 m 79 ls [.ref x21]) rfl ?_
          refine lv_iload hx hb dX0_slice_79 (lv_at hl 0 rfl) ?_
          refine lv_iload hx hb dX0_slice_81 (lv_at hl 2 rfl) ?_
          refine r_bipush hx hb dX0_slice_83 (by decide) ?_
          refine r_irem hx hb dX0_slice_85 (by omega) (by decide) (by decide) ?_
          refine a_ist (v := (lo.tdiv 10).tmod 10) hCK hG hS (3100 + k) e_ha v_ha k_ha (by decide) (by decide) dX0_slice_86 (fun C32 H locs kk33 oo34 hG hS => ?_)
          have k_ha : C32 (3100 + k) = .inl (E 0, 10, ai (updZ (updZ (updZ (fun _ => 0) 4 (lo.tmod 10)) (4 + 5) (up.tmod 10)) 3 ((lo.tdiv 10).tmod 10))) := kk33
          have k_mn : C32 0 = .inr (0, [.ref (ad 1), .int (iI (I 48)), (if S 0 2 = 0 then .null else .ref (ad 30)), .ref (ad 2), .ref (ad 3), .ref (ad 11), .ref (ad 12), .ref (ad 13), .ref (ad 14), .ref (ad 4), .ref (ad 5), .int (iI (I 15)), .int (iI (I 22)), .int (iI (I 23)), .int (iI (I 24)), .int (iI (I 25)), .ref (ad 19), .ref (ad 20), .ref (ad 9), .ref (ad 6), .ref (ad 7), .ref (ad 10), .int (iI (I 41)), .int (iI (I 44)), .ref (ad 8), .int (iI (I 45))]) := (oo34 0 (by omega)).trans k_mn
          have k_li : C32 11 = .inr (10, [.int (iI (S 11 0)), .ref (ad 15), .int (iI (I 1))]) := (oo34 11 (by omega)).trans k_li
          have k_ar : C32 15 = .inl (E 5, (L 15), ar (fun j => if (j : Int) < I 1 then some (ad (3000 + j)) else none)) := (oo34 15 (by omega)).trans k_ar
          have k_it : C32 (3000 + k) = .inr (3, [.int (iI ln), .ref x21]) := (oo34 (3000 + k) (by omega)).trans k_it
          have hOa : ∀ q, (q ≠ 3000 + k ∧ q ≠ 3100 + k) → ad14 q = ad q := hOa
          have hOc : ∀ q, (q ≠ 3000 + k ∧ q ≠ 3100 + k) → C32 q = (cC E ad I F S Y L) q := fun q hq => (oo34 q (by omega)).trans (hOc q hq)
          refine lv_aload hx hb dX0_slice_87 (lv_at hl 3 rfl) ?_
          refine a_getN hCK hE hG (3000 + k) e_it v_it k_it (ci := 3) rfl in_X3 1 (by decide) q651 rfl rfl dX0_slice_89 ?_
          refine W.eq (g2 := F0 m 92 ls [.ref x21]) rfl ?_
          refine lv_iload hx hb dX0_slice_92 (lv_at hl 0 rfl) ?_
          refine r_iconst hx hb dX0_slice_94 ?_
          refine r_iadd hx hb dX0_slice_95 ?_
          refine lv_iload hx hb dX0_slice_96 (lv_at hl 1 rfl) ?_
          refine r_bipush hx hb dX0_slice_98 (by decide) ?_
          refine r_irem hx hb dX0_slice_100 (by omega) (by decide) (by decide) ?_
          refine a_ist (v := (up.tdiv 10).tmod 10) hCK hG hS (3100 + k) e_ha v_ha k_ha (by decide) (by omega) dX0_slice_101 (fun C35 H locs kk36 oo37 hG hS => ?_)
          have k_ha : C35 (3100 + k) = .inl (E 0, 10, ai (updZ (updZ (updZ (updZ (fun _ => 0) 4 (lo.tmod 10)) (4 + 5) (up.tmod 10)) 3 ((lo.tdiv 10).tmod 10)) (3 + 5) ((up.tdiv 10).tmod 10))) := kk36
          have k_mn : C35 0 = .inr (0, [.ref (ad 1), .int (iI (I 48)), (if S 0 2 = 0 then .null else .ref (ad 30)), .ref (ad 2), .ref (ad 3), .ref (ad 11), .ref (ad 12), .ref (ad 13), .ref (ad 14), .ref (ad 4), .ref (ad 5), .int (iI (I 15)), .int (iI (I 22)), .int (iI (I 23)), .int (iI (I 24)), .int (iI (I 25)), .ref (ad 19), .ref (ad 20), .ref (ad 9), .ref (ad 6), .ref (ad 7), .ref (ad 10), .int (iI (I 41)), .int (iI (I 44)), .ref (ad 8), .int (iI (I 45))]) := (oo37 0 (by omega)).trans k_mn
          have k_li : C35 11 = .inr (10, [.int (iI (S 11 0)), .ref (ad 15), .int (iI (I 1))]) := (oo37 11 (by omega)).trans k_li
          have k_ar : C35 15 = .inl (E 5, (L 15), ar (fun j => if (j : Int) < I 1 then some (ad (3000 + j)) else none)) := (oo37 15 (by omega)).trans k_ar
          have k_it : C35 (3000 + k) = .inr (3, [.int (iI ln), .ref x21]) := (oo37 (3000 + k) (by omega)).trans k_it
          have hOa : ∀ q, (q ≠ 3000 + k ∧ q ≠ 3100 + k) → ad14 q = ad q := hOa
          have hOc : ∀ q, (q ≠ 3000 + k ∧ q ≠ 3100 + k) → C35 q = (cC E ad I F S Y L) q := fun q hq => (oo37 q (by omega)).trans (hOc q hq)
          refine lv_iload hx hb dX0_slice_102 (lv_at hl 2 rfl) ?_
          refine r_bipush hx hb dX0_slice_104 (by decide) ?_
          refine r_idiv hx hb dX0_slice_106 (by omega) (by decide) (by decide) ?_
          refine lv_istore (lv' := [(5, .int (iI ((lo.tdiv 10).tdiv 10))), (7, .int (iI 3)), (6, .int (iI (up.tdiv 10))), (4, .ref x5), (0, .ref (ad 0)), (1, .int (iI ln)), (2, .int (iI lo)), (3, .int (iI up))]) hx hb dX0_slice_107 hl (by decide) rfl (fun ls hl => ?_)
          refine lv_iload hx hb dX0_slice_109 (lv_at hl 2 rfl) ?_
          refine r_bipush hx hb dX0_slice_111 (by decide) ?_
          refine r_idiv hx hb dX0_slice_113 (by omega) (by decide) (by decide) ?_
          refine lv_istore (lv' := [(6, .int (iI ((up.tdiv 10).tdiv 10))), (5, .int (iI ((lo.tdiv 10).tdiv 10))), (7, .int (iI 3)), (4, .ref x5), (0, .ref (ad 0)), (1, .int (iI ln)), (2, .int (iI lo)), (3, .int (iI up))]) hx hb dX0_slice_114 hl (by decide) rfl (fun ls hl => ?_)
          refine lv_iinc (v := iI (3 + (-1))) (lv' := [(7, .int (iI (3 + (-1)))), (6, .int (iI ((up.tdiv 10).tdiv 10))), (5, .int (iI ((lo.tdiv 10).tdiv 10))), (4, .ref x5), (0, .ref (ad 0)), (1, .int (iI ln)), (2, .int (iI lo)), (3, .int (iI up))]) hx hb dX0_slice_116 hl (k := 2) rfl (iI_add _ _) (by decide) rfl (fun ls hl => ?_)
          refine lv_goto (tgt := 69) hx hb dX0_slice_119 (by decide) ?_
          have hl : lv_has ls 8 [(7, .int (iI 2)), (6, .int (iI ((up.tdiv 10).tdiv 10))), (5, .int (iI ((lo.tdiv 10).tdiv 10))), (4, .ref x5), (0, .ref (ad 0)), (1, .int (iI ln)), (2, .int (iI lo)), (3, .int (iI up))] := hl
          have hb38 := tdiv_bd (a := lo.tdiv 10) (b := 10) (M := 99999) (by decide) (by omega)
          have hb39 := tdiv_bd (a := up.tdiv 10) (b := 10) (M := 99999) (by decide) (by omega)
          refine lv_iload hx hb dX0_slice_69 (lv_at hl 0 rfl) ?_
          refine r_if_lt (tgt := 122) hx hb dX0_slice_71 (by decide) (by decide) (fun c40 => absurd c40 (by decide)) (fun c40 => ?_)
          refine lv_aload hx hb dX0_slice_74 (lv_at hl 3 rfl) ?_
          refine a_getN hCK hE hG (3000 + k) e_it v_it k_it (ci := 3) rfl in_X3 1 (by decide) q651 rfl rfl dX0_slice_76 ?_
          refine W.eq (g2 := F0 m 79 ls [.ref x21]) rfl ?_
          refine lv_iload hx hb dX0_slice_79 (lv_at hl 0 rfl) ?_
          refine lv_iload hx hb dX0_slice_81 (lv_at hl 2 rfl) ?_
          refine r_bipush hx hb dX0_slice_83 (by decide) ?_
          refine r_irem hx hb dX0_slice_85 (by omega) (by decide) (by decide) ?_
          refine a_ist (v := ((lo.tdiv 10).tdiv 10).tmod 10) hCK hG hS (3100 + k) e_ha v_ha k_ha (by decide) (by decide) dX0_slice_86 (fun C41 H locs kk42 oo43 hG hS => ?_)
          have k_ha : C41 (3100 + k) = .inl (E 0, 10, ai (updZ (updZ (updZ (updZ (updZ (fun _ => 0) 4 (lo.tmod 10)) (4 + 5) (up.tmod 10)) 3 ((lo.tdiv 10).tmod 10)) (3 + 5) ((up.tdiv 10).tmod 10)) 2 (((lo.tdiv 10).tdiv 10).tmod 10))) := kk42
          have k_mn : C41 0 = .inr (0, [.ref (ad 1), .int (iI (I 48)), (if S 0 2 = 0 then .null else .ref (ad 30)), .ref (ad 2), .ref (ad 3), .ref (ad 11), .ref (ad 12), .ref (ad 13), .ref (ad 14), .ref (ad 4), .ref (ad 5), .int (iI (I 15)), .int (iI (I 22)), .int (iI (I 23)), .int (iI (I 24)), .int (iI (I 25)), .ref (ad 19), .ref (ad 20), .ref (ad 9), .ref (ad 6), .ref (ad 7), .ref (ad 10), .int (iI (I 41)), .int (iI (I 44)), .ref (ad 8), .int (iI (I 45))]) := (oo43 0 (by omega)).trans k_mn
          have k_li : C41 11 = .inr (10, [.int (iI (S 11 0)), .ref (ad 15), .int (iI (I 1))]) := (oo43 11 (by omega)).trans k_li
          have k_ar : C41 15 = .inl (E 5, (L 15), ar (fun j => if (j : Int) < I 1 then some (ad (3000 + j)) else none)) := (oo43 15 (by omega)).trans k_ar
          have k_it : C41 (3000 + k) = .inr (3, [.int (iI ln), .ref x21]) := (oo43 (3000 + k) (by omega)).trans k_it
          have hOa : ∀ q, (q ≠ 3000 + k ∧ q ≠ 3100 + k) → ad14 q = ad q := hOa
          have hOc : ∀ q, (q ≠ 3000 + k ∧ q ≠ 3100 + k) → C41 q = (cC E ad I F S Y L) q := fun q hq => (oo43 q (by omega)).trans (hOc q hq)
          refine lv_aload hx hb dX0_slice_87 (lv_at hl 3 rfl) ?_
          refine a_getN hCK hE hG (3000 + k) e_it v_it k_it (ci := 3) rfl in_X3 1 (by decide) q651 rfl rfl dX0_slice_89 ?_
          refine W.eq (g2 := F0 m 92 ls [.ref x21]) rfl ?_
          refine lv_iload hx hb dX0_slice_92 (lv_at hl 0 rfl) ?_
          refine r_iconst hx hb dX0_slice_94 ?_
          refine r_iadd hx hb dX0_slice_95 ?_
          refine lv_iload hx hb dX0_slice_96 (lv_at hl 1 rfl) ?_
          refine r_bipush hx hb dX0_slice_98 (by decide) ?_
          refine r_irem hx hb dX0_slice_100 (by omega) (by decide) (by decide) ?_
          refine a_ist (v := ((up.tdiv 10).tdiv 10).tmod 10) hCK hG hS (3100 + k) e_ha v_ha k_ha (by decide) (by omega) dX0_slice_101 (fun C44 H locs kk45 oo46 hG hS => ?_)
          have k_ha : C44 (3100 + k) = .inl (E 0, 10, ai (updZ (updZ (updZ (updZ (updZ (updZ (fun _ => 0) 4 (lo.tmod 10)) (4 + 5) (up.tmod 10)) 3 ((lo.tdiv 10).tmod 10)) (3 + 5) ((up.tdiv 10).tmod 10)) 2 (((lo.tdiv 10).tdiv 10).tmod 10)) (2 + 5) (((up.tdiv 10).tdiv 10).tmod 10))) := kk45
          have k_mn : C44 0 = .inr (0, [.ref (ad 1), .int (iI (I 48)), (if S 0 2 = 0 then .null else .ref (ad 30)), .ref (ad 2), .ref (ad 3), .ref (ad 11), .ref (ad 12), .ref (ad 13), .ref (ad 14), .ref (ad 4), .ref (ad 5), .int (iI (I 15)), .int (iI (I 22)), .int (iI (I 23)), .int (iI (I 24)), .int (iI (I 25)), .ref (ad 19), .ref (ad 20), .ref (ad 9), .ref (ad 6), .ref (ad 7), .ref (ad 10), .int (iI (I 41)), .int (iI (I 44)), .ref (ad 8), .int (iI (I 45))]) := (oo46 0 (by omega)).trans k_mn
          have k_li : C44 11 = .inr (10, [.int (iI (S 11 0)), .ref (ad 15), .int (iI (I 1))]) := (oo46 11 (by omega)).trans k_li
          have k_ar : C44 15 = .inl (E 5, (L 15), ar (fun j => if (j : Int) < I 1 then some (ad (3000 + j)) else none)) := (oo46 15 (by omega)).trans k_ar
          have k_it : C44 (3000 + k) = .inr (3, [.int (iI ln), .ref x21]) := (oo46 (3000 + k) (by omega)).trans k_it
          have hOa : ∀ q, (q ≠ 3000 + k ∧ q ≠ 3100 + k) → ad14 q = ad q := hOa
          have hOc : ∀ q, (q ≠ 3000 + k ∧ q ≠ 3100 + k) → C44 q = (cC E ad I F S Y L) q := fun q hq => (oo46 q (by omega)).trans (hOc q hq)
          refine lv_iload hx hb dX0_slice_102 (lv_at hl 2 rfl) ?_
          refine r_bipush hx hb dX0_slice_104 (by decide) ?_
          refine r_idiv hx hb dX0_slice_106 (by omega) (by decide) (by decide) ?_
          refine lv_istore (lv' := [(5, .int (iI (((lo.tdiv 10).tdiv 10).tdiv 10))), (7, .int (iI 2)), (6, .int (iI ((up.tdiv 10).tdiv 10))), (4, .ref x5), (0, .ref (ad 0)), (1, .int (iI ln)), (2, .int (iI lo)), (3, .int (iI up))]) hx hb dX0_slice_107 hl (by decide) rfl (fun ls hl => ?_)
          refine lv_iload hx hb dX0_slice_109 (lv_at hl 2 rfl) ?_
          refine r_bipush hx hb dX0_slice_111 (by decide) ?_
          refine r_idiv hx hb dX0_slice_113 (by omega) (by decide) (by decide) ?_
          refine lv_istore (lv' := [(6, .int (iI (((up.tdiv 10).tdiv 10).tdiv 10))), (5, .int (iI (((lo.tdiv 10).tdiv 10).tdiv 10))), (7, .int (iI 2)), (4, .ref x5), (0, .ref (ad 0)), (1, .int (iI ln)), (2, .int (iI lo)), (3, .int (iI up))]) hx hb dX0_slice_114 hl (by decide) rfl (fun ls hl => ?_)
          refine lv_iinc (v := iI (2 + (-1))) (lv' := [(7, .int (iI (2 + (-1)))), (6, .int (iI (((up.tdiv 10).tdiv 10).tdiv 10))), (5, .int (iI (((lo.tdiv 10).tdiv 10).tdiv 10))), (4, .ref x5), (0, .ref (ad 0)), (1, .int (iI ln)), (2, .int (iI lo)), (3, .int (iI up))]) hx hb dX0_slice_116 hl (k := 2) rfl (iI_add _ _) (by decide) rfl (fun ls hl => ?_)
          refine lv_goto (tgt := 69) hx hb dX0_slice_119 (by decide) ?_
          have hl : lv_has ls 8 [(7, .int (iI 1)), (6, .int (iI (((up.tdiv 10).tdiv 10).tdiv 10))), (5, .int (iI (((lo.tdiv 10).tdiv 10).tdiv 10))), (4, .ref x5), (0, .ref (ad 0)), (1, .int (iI ln)), (2, .int (iI lo)), (3, .int (iI up))] := hl
          have hb47 := tdiv_bd (a := (lo.tdiv 10).tdiv 10) (b := 10) (M := 99999) (by decide) (by omega)
          have hb48 := tdiv_bd (a := (up.tdiv 10).tdiv 10) (b := 10) (M := 99999) (by decide) (by omega)
          refine lv_iload hx hb dX0_slice_69 (lv_at hl 0 rfl) ?_
          refine r_if_lt (tgt := 122) hx hb dX0_slice_71 (by decide) (by decide) (fun c49 => absurd c49 (by decide)) (fun c49 => ?_)
          refine lv_aload hx hb dX0_slice_74 (lv_at hl 3 rfl) ?_
          refine a_getN hCK hE hG (3000 + k) e_it v_it k_it (ci := 3) rfl in_X3 1 (by decide) q651 rfl rfl dX0_slice_76 ?_
          refine W.eq (g2 := F0 m 79 ls [.ref x21]) rfl ?_
          refine lv_iload hx hb dX0_slice_79 (lv_at hl 0 rfl) ?_
          refine lv_iload hx hb dX0_slice_81 (lv_at hl 2 rfl) ?_
          refine r_bipush hx hb dX0_slice_83 (by decide) ?_
          refine r_irem hx hb dX0_slice_85 (by omega) (by decide) (by decide) ?_
          refine a_ist (v := (((lo.tdiv 10).tdiv 10).tdiv 10).tmod 10) hCK hG hS (3100 + k) e_ha v_ha k_ha (by decide) (by decide) dX0_slice_86 (fun C50 H locs kk51 oo52 hG hS => ?_)
          have k_ha : C50 (3100 + k) = .inl (E 0, 10, ai (updZ (updZ (updZ (updZ (updZ (updZ (updZ (fun _ => 0) 4 (lo.tmod 10)) (4 + 5) (up.tmod 10)) 3 ((lo.tdiv 10).tmod 10)) (3 + 5) ((up.tdiv 10).tmod 10)) 2 (((lo.tdiv 10).tdiv 10).tmod 10)) (2 + 5) (((up.tdiv 10).tdiv 10).tmod 10)) 1 ((((lo.tdiv 10).tdiv 10).tdiv 10).tmod 10))) := kk51
          have k_mn : C50 0 = .inr (0, [.ref (ad 1), .int (iI (I 48)), (if S 0 2 = 0 then .null else .ref (ad 30)), .ref (ad 2), .ref (ad 3), .ref (ad 11), .ref (ad 12), .ref (ad 13), .ref (ad 14), .ref (ad 4), .ref (ad 5), .int (iI (I 15)), .int (iI (I 22)), .int (iI (I 23)), .int (iI (I 24)), .int (iI (I 25)), .ref (ad 19), .ref (ad 20), .ref (ad 9), .ref (ad 6), .ref (ad 7), .ref (ad 10), .int (iI (I 41)), .int (iI (I 44)), .ref (ad 8), .int (iI (I 45))]) := (oo52 0 (by omega)).trans k_mn
          have k_li : C50 11 = .inr (10, [.int (iI (S 11 0)), .ref (ad 15), .int (iI (I 1))]) := (oo52 11 (by omega)).trans k_li
          have k_ar : C50 15 = .inl (E 5, (L 15), ar (fun j => if (j : Int) < I 1 then some (ad (3000 + j)) else none)) := (oo52 15 (by omega)).trans k_ar
          have k_it : C50 (3000 + k) = .inr (3, [.int (iI ln), .ref x21]) := (oo52 (3000 + k) (by omega)).trans k_it
          have hOa : ∀ q, (q ≠ 3000 + k ∧ q ≠ 3100 + k) → ad14 q = ad q := hOa
          have hOc : ∀ q, (q ≠ 3000 + k ∧ q ≠ 3100 + k) → C50 q = (cC E ad I F S Y L) q := fun q hq => (oo52 q (by omega)).trans (hOc q hq)
          refine lv_aload hx hb dX0_slice_87 (lv_at hl 3 rfl) ?_
          refine a_getN hCK hE hG (3000 + k) e_it v_it k_it (ci := 3) rfl in_X3 1 (by decide) q651 rfl rfl dX0_slice_89 ?_
          refine W.eq (g2 := F0 m 92 ls [.ref x21]) rfl ?_
          refine lv_iload hx hb dX0_slice_92 (lv_at hl 0 rfl) ?_
          refine r_iconst hx hb dX0_slice_94 ?_
          refine r_iadd hx hb dX0_slice_95 ?_
          refine lv_iload hx hb dX0_slice_96 (lv_at hl 1 rfl) ?_
          refine r_bipush hx hb dX0_slice_98 (by decide) ?_
          refine r_irem hx hb dX0_slice_100 (by omega) (by decide) (by decide) ?_
          refine a_ist (v := (((up.tdiv 10).tdiv 10).tdiv 10).tmod 10) hCK hG hS (3100 + k) e_ha v_ha k_ha (by decide) (by omega) dX0_slice_101 (fun C53 H locs kk54 oo55 hG hS => ?_)
          have k_ha : C53 (3100 + k) = .inl (E 0, 10, ai (updZ (updZ (updZ (updZ (updZ (updZ (updZ (updZ (fun _ => 0) 4 (lo.tmod 10)) (4 + 5) (up.tmod 10)) 3 ((lo.tdiv 10).tmod 10)) (3 + 5) ((up.tdiv 10).tmod 10)) 2 (((lo.tdiv 10).tdiv 10).tmod 10)) (2 + 5) (((up.tdiv 10).tdiv 10).tmod 10)) 1 ((((lo.tdiv 10).tdiv 10).tdiv 10).tmod 10)) (1 + 5) ((((up.tdiv 10).tdiv 10).tdiv 10).tmod 10))) := kk54
          have k_mn : C53 0 = .inr (0, [.ref (ad 1), .int (iI (I 48)), (if S 0 2 = 0 then .null else .ref (ad 30)), .ref (ad 2), .ref (ad 3), .ref (ad 11), .ref (ad 12), .ref (ad 13), .ref (ad 14), .ref (ad 4), .ref (ad 5), .int (iI (I 15)), .int (iI (I 22)), .int (iI (I 23)), .int (iI (I 24)), .int (iI (I 25)), .ref (ad 19), .ref (ad 20), .ref (ad 9), .ref (ad 6), .ref (ad 7), .ref (ad 10), .int (iI (I 41)), .int (iI (I 44)), .ref (ad 8), .int (iI (I 45))]) := (oo55 0 (by omega)).trans k_mn
          have k_li : C53 11 = .inr (10, [.int (iI (S 11 0)), .ref (ad 15), .int (iI (I 1))]) := (oo55 11 (by omega)).trans k_li
          have k_ar : C53 15 = .inl (E 5, (L 15), ar (fun j => if (j : Int) < I 1 then some (ad (3000 + j)) else none)) := (oo55 15 (by omega)).trans k_ar
          have k_it : C53 (3000 + k) = .inr (3, [.int (iI ln), .ref x21]) := (oo55 (3000 + k) (by omega)).trans k_it
          have hOa : ∀ q, (q ≠ 3000 + k ∧ q ≠ 3100 + k) → ad14 q = ad q := hOa
          have hOc : ∀ q, (q ≠ 3000 + k ∧ q ≠ 3100 + k) → C53 q = (cC E ad I F S Y L) q := fun q hq => (oo55 q (by omega)).trans (hOc q hq)
          refine lv_iload hx hb dX0_slice_102 (lv_at hl 2 rfl) ?_
          refine r_bipush hx hb dX0_slice_104 (by decide) ?_
          refine r_idiv hx hb dX0_slice_106 (by omega) (by decide) (by decide) ?_
          refine lv_istore (lv' := [(5, .int (iI ((((lo.tdiv 10).tdiv 10).tdiv 10).tdiv 10))), (7, .int (iI 1)), (6, .int (iI (((up.tdiv 10).tdiv 10).tdiv 10))), (4, .ref x5), (0, .ref (ad 0)), (1, .int (iI ln)), (2, .int (iI lo)), (3, .int (iI up))]) hx hb dX0_slice_107 hl (by decide) rfl (fun ls hl => ?_)
          refine lv_iload hx hb dX0_slice_109 (lv_at hl 2 rfl) ?_
          refine r_bipush hx hb dX0_slice_111 (by decide) ?_
          refine r_idiv hx hb dX0_slice_113 (by omega) (by decide) (by decide) ?_
          refine lv_istore (lv' := [(6, .int (iI ((((up.tdiv 10).tdiv 10).tdiv 10).tdiv 10))), (5, .int (iI ((((lo.tdiv 10).tdiv 10).tdiv 10).tdiv 10))), (7, .int (iI 1)), (4, .ref x5), (0, .ref (ad 0)), (1, .int (iI ln)), (2, .int (iI lo)), (3, .int (iI up))]) hx hb dX0_slice_114 hl (by decide) rfl (fun ls hl => ?_)
          refine lv_iinc (v := iI (1 + (-1))) (lv' := [(7, .int (iI (1 + (-1)))), (6, .int (iI ((((up.tdiv 10).tdiv 10).tdiv 10).tdiv 10))), (5, .int (iI ((((lo.tdiv 10).tdiv 10).tdiv 10).tdiv 10))), (4, .ref x5), (0, .ref (ad 0)), (1, .int (iI ln)), (2, .int (iI lo)), (3, .int (iI up))]) hx hb dX0_slice_116 hl (k := 2) rfl (iI_add _ _) (by decide) rfl (fun ls hl => ?_)
          refine lv_goto (tgt := 69) hx hb dX0_slice_119 (by decide) ?_
          have hl : lv_has ls 8 [(7, .int (iI 0)), (6, .int (iI ((((up.tdiv 10).tdiv 10).tdiv 10).tdiv 10))), (5, .int (iI ((((lo.tdiv 10).tdiv 10).tdiv 10).tdiv 10))), (4, .ref x5), (0, .ref (ad 0)), (1, .int (iI ln)), (2, .int (iI lo)), (3, .int (iI up))] := hl
          have hb56 := tdiv_bd (a := ((lo.tdiv 10).tdiv 10).tdiv 10) (b := 10) (M := 99999) (by decide) (by omega)
          have hb57 := tdiv_bd (a := ((up.tdiv 10).tdiv 10).tdiv 10) (b := 10) (M := 99999) (by decide) (by omega)
          refine lv_iload hx hb dX0_slice_69 (lv_at hl 0 rfl) ?_
          refine r_if_lt (tgt := 122) hx hb dX0_slice_71 (by decide) (by decide) (fun c58 => absurd c58 (by decide)) (fun c58 => ?_)
          refine lv_aload hx hb dX0_slice_74 (lv_at hl 3 rfl) ?_
          refine a_getN hCK hE hG (3000 + k) e_it v_it k_it (ci := 3) rfl in_X3 1 (by decide) q651 rfl rfl dX0_slice_76 ?_
          refine W.eq (g2 := F0 m 79 ls [.ref x21]) rfl ?_
          refine lv_iload hx hb dX0_slice_79 (lv_at hl 0 rfl) ?_
          refine lv_iload hx hb dX0_slice_81 (lv_at hl 2 rfl) ?_
          refine r_bipush hx hb dX0_slice_83 (by decide) ?_
          refine r_irem hx hb dX0_slice_85 (by omega) (by decide) (by decide) ?_
          refine a_ist (v := ((((lo.tdiv 10).tdiv 10).tdiv 10).tdiv 10).tmod 10) hCK hG hS (3100 + k) e_ha v_ha k_ha (by decide) (by decide) dX0_slice_86 (fun C59 H locs kk60 oo61 hG hS => ?_)
          have k_ha : C59 (3100 + k) = .inl (E 0, 10, ai (updZ (updZ (updZ (updZ (updZ (updZ (updZ (updZ (updZ (fun _ => 0) 4 (lo.tmod 10)) (4 + 5) (up.tmod 10)) 3 ((lo.tdiv 10).tmod 10)) (3 + 5) ((up.tdiv 10).tmod 10)) 2 (((lo.tdiv 10).tdiv 10).tmod 10)) (2 + 5) (((up.tdiv 10).tdiv 10).tmod 10)) 1 ((((lo.tdiv 10).tdiv 10).tdiv 10).tmod 10)) (1 + 5) ((((up.tdiv 10).tdiv 10).tdiv 10).tmod 10)) 0 (((((lo.tdiv 10).tdiv 10).tdiv 10).tdiv 10).tmod 10))) := kk60
          have k_mn : C59 0 = .inr (0, [.ref (ad 1), .int (iI (I 48)), (if S 0 2 = 0 then .null else .ref (ad 30)), .ref (ad 2), .ref (ad 3), .ref (ad 11), .ref (ad 12), .ref (ad 13), .ref (ad 14), .ref (ad 4), .ref (ad 5), .int (iI (I 15)), .int (iI (I 22)), .int (iI (I 23)), .int (iI (I 24)), .int (iI (I 25)), .ref (ad 19), .ref (ad 20), .ref (ad 9), .ref (ad 6), .ref (ad 7), .ref (ad 10), .int (iI (I 41)), .int (iI (I 44)), .ref (ad 8), .int (iI (I 45))]) := (oo61 0 (by omega)).trans k_mn
          have k_li : C59 11 = .inr (10, [.int (iI (S 11 0)), .ref (ad 15), .int (iI (I 1))]) := (oo61 11 (by omega)).trans k_li
          have k_ar : C59 15 = .inl (E 5, (L 15), ar (fun j => if (j : Int) < I 1 then some (ad (3000 + j)) else none)) := (oo61 15 (by omega)).trans k_ar
          have k_it : C59 (3000 + k) = .inr (3, [.int (iI ln), .ref x21]) := (oo61 (3000 + k) (by omega)).trans k_it
          have hOa : ∀ q, (q ≠ 3000 + k ∧ q ≠ 3100 + k) → ad14 q = ad q := hOa
          have hOc : ∀ q, (q ≠ 3000 + k ∧ q ≠ 3100 + k) → C59 q = (cC E ad I F S Y L) q := fun q hq => (oo61 q (by omega)).trans (hOc q hq)
          refine lv_aload hx hb dX0_slice_87 (lv_at hl 3 rfl) ?_
          refine a_getN hCK hE hG (3000 + k) e_it v_it k_it (ci := 3) rfl in_X3 1 (by decide) q651 rfl rfl dX0_slice_89 ?_
          refine W.eq (g2 := F0 m 92 ls [.ref x21]) rfl ?_
          refine lv_iload hx hb dX0_slice_92 (lv_at hl 0 rfl) ?_
          refine r_iconst hx hb dX0_slice_94 ?_
          refine r_iadd hx hb dX0_slice_95 ?_
          refine lv_iload hx hb dX0_slice_96 (lv_at hl 1 rfl) ?_
          refine r_bipush hx hb dX0_slice_98 (by decide) ?_
          refine r_irem hx hb dX0_slice_100 (by omega) (by decide) (by decide) ?_
          refine a_ist (v := ((((up.tdiv 10).tdiv 10).tdiv 10).tdiv 10).tmod 10) hCK hG hS (3100 + k) e_ha v_ha k_ha (by decide) (by omega) dX0_slice_101 (fun C62 H locs kk63 oo64 hG hS => ?_)
          have k_ha : C62 (3100 + k) = .inl (E 0, 10, ai (updZ (updZ (updZ (updZ (updZ (updZ (updZ (updZ (updZ (updZ (fun _ => 0) 4 (lo.tmod 10)) (4 + 5) (up.tmod 10)) 3 ((lo.tdiv 10).tmod 10)) (3 + 5) ((up.tdiv 10).tmod 10)) 2 (((lo.tdiv 10).tdiv 10).tmod 10)) (2 + 5) (((up.tdiv 10).tdiv 10).tmod 10)) 1 ((((lo.tdiv 10).tdiv 10).tdiv 10).tmod 10)) (1 + 5) ((((up.tdiv 10).tdiv 10).tdiv 10).tmod 10)) 0 (((((lo.tdiv 10).tdiv 10).tdiv 10).tdiv 10).tmod 10)) (0 + 5) (((((up.tdiv 10).tdiv 10).tdiv 10).tdiv 10).tmod 10))) := kk63
          have k_mn : C62 0 = .inr (0, [.ref (ad 1), .int (iI (I 48)), (if S 0 2 = 0 then .null else .ref (ad 30)), .ref (ad 2), .ref (ad 3), .ref (ad 11), .ref (ad 12), .ref (ad 13), .ref (ad 14), .ref (ad 4), .ref (ad 5), .int (iI (I 15)), .int (iI (I 22)), .int (iI (I 23)), .int (iI (I 24)), .int (iI (I 25)), .ref (ad 19), .ref (ad 20), .ref (ad 9), .ref (ad 6), .ref (ad 7), .ref (ad 10), .int (iI (I 41)), .int (iI (I 44)), .ref (ad 8), .int (iI (I 45))]) := (oo64 0 (by omega)).trans k_mn
          have k_li : C62 11 = .inr (10, [.int (iI (S 11 0)), .ref (ad 15), .int (iI (I 1))]) := (oo64 11 (by omega)).trans k_li
          have k_ar : C62 15 = .inl (E 5, (L 15), ar (fun j => if (j : Int) < I 1 then some (ad (3000 + j)) else none)) := (oo64 15 (by omega)).trans k_ar
          have k_it : C62 (3000 + k) = .inr (3, [.int (iI ln), .ref x21]) := (oo64 (3000 + k) (by omega)).trans k_it
          have hOa : ∀ q, (q ≠ 3000 + k ∧ q ≠ 3100 + k) → ad14 q = ad q := hOa
          have hOc : ∀ q, (q ≠ 3000 + k ∧ q ≠ 3100 + k) → C62 q = (cC E ad I F S Y L) q := fun q hq => (oo64 q (by omega)).trans (hOc q hq)
          refine lv_iload hx hb dX0_slice_102 (lv_at hl 2 rfl) ?_
          refine r_bipush hx hb dX0_slice_104 (by decide) ?_
          refine r_idiv hx hb dX0_slice_106 (by omega) (by decide) (by decide) ?_
          refine lv_istore (lv' := [(5, .int (iI (((((lo.tdiv 10).tdiv 10).tdiv 10).tdiv 10).tdiv 10))), (7, .int (iI 0)), (6, .int (iI ((((up.tdiv 10).tdiv 10).tdiv 10).tdiv 10))), (4, .ref x5), (0, .ref (ad 0)), (1, .int (iI ln)), (2, .int (iI lo)), (3, .int (iI up))]) hx hb dX0_slice_107 hl (by decide) rfl (fun ls hl => ?_)
          refine lv_iload hx hb dX0_slice_109 (lv_at hl 2 rfl) ?_
          refine r_bipush hx hb dX0_slice_111 (by decide) ?_
          refine r_idiv hx hb dX0_slice_113 (by omega) (by decide) (by decide) ?_
          refine lv_istore (lv' := [(6, .int (iI (((((up.tdiv 10).tdiv 10).tdiv 10).tdiv 10).tdiv 10))), (5, .int (iI (((((lo.tdiv 10).tdiv 10).tdiv 10).tdiv 10).tdiv 10))), (7, .int (iI 0)), (4, .ref x5), (0, .ref (ad 0)), (1, .int (iI ln)), (2, .int (iI lo)), (3, .int (iI up))]) hx hb dX0_slice_114 hl (by decide) rfl (fun ls hl => ?_)
          refine lv_iinc (v := iI (0 + (-1))) (lv' := [(7, .int (iI (0 + (-1)))), (6, .int (iI (((((up.tdiv 10).tdiv 10).tdiv 10).tdiv 10).tdiv 10))), (5, .int (iI (((((lo.tdiv 10).tdiv 10).tdiv 10).tdiv 10).tdiv 10))), (4, .ref x5), (0, .ref (ad 0)), (1, .int (iI ln)), (2, .int (iI lo)), (3, .int (iI up))]) hx hb dX0_slice_116 hl (k := 2) rfl (iI_add _ _) (by decide) rfl (fun ls hl => ?_)
          refine lv_goto (tgt := 69) hx hb dX0_slice_119 (by decide) ?_
          have hl : lv_has ls 8 [(7, .int (iI (-1))), (6, .int (iI (((((up.tdiv 10).tdiv 10).tdiv 10).tdiv 10).tdiv 10))), (5, .int (iI (((((lo.tdiv 10).tdiv 10).tdiv 10).tdiv 10).tdiv 10))), (4, .ref x5), (0, .ref (ad 0)), (1, .int (iI ln)), (2, .int (iI lo)), (3, .int (iI up))] := hl
          refine lv_iload hx hb dX0_slice_69 (lv_at hl 0 rfl) ?_
          refine r_if_lt (tgt := 122) hx hb dX0_slice_71 (by decide) (by decide) (fun c65 => ?_) (fun c65 => absurd c65 (by decide))
          refine lv_aload_n hx hb dX0_slice_122 rfl (lv_at hl 4 rfl) ?_
          refine a_get hCK hG 0 e_mn v_mn k_mn (ci := 0) rfl in_X0 5 (by decide) q202 rfl rfl dX0_slice_123 ?_
          refine W.eq (g2 := F0 m 126 ls [.ref (ad 11)]) rfl ?_
          refine lv_aload hx hb dX0_slice_126 (lv_at hl 3 rfl) ?_
          have hel : elOK V15 ad14 C62 11 15 (fun j : Nat => if (j : Int) < I 1 then some (ad (3000 + j)) else none) := by
            intro i y hy
            obtain ⟨q, h1, h2, h3, h4, ci, fs, r, h5, h6, h7⟩ := hel i y hy
            have hc : q ≠ 3000 + k ∧ q ≠ 3100 + k := ⟨fun z => hnk (z ▸ h2), fun z => hnh (z ▸ h2)⟩
            exact ⟨q, h1.trans (hOa q hc).symm, by rw [hV18]; exact Or.inl (by rw [hV12]; exact Or.inl h2), h3, h4, ci, fs, r, (hOc q hc).trans h5, h6, h7⟩
          have hrn : ¬ V15 29 := by
            rw [hV18]
            rintro (h | h)
            · rw [hV12] at h
              rcases h with h | h
              · exact hn29 h
              · omega
            · omega
          refine a_calli (a_runV (n := 1) (C0 := RJ2) (b := ad 11) (rest := []) (as := [.ref x5]) hCK hE hA hml (met_add l adK adV st D E A V15 ad14 C62 11 15 (ad 11) (ad 15) (L 15) (S 11 0) (I 1) (fun j : Nat => if (j : Int) < I 1 then some (ad (3000 + j)) else none) (by decide) v_li e_li k_li v_ar e_ar k_ar hel (by omega) 29 hrn (3000 + k) x5 v_it e_it ⟨3, _, _, k_it, rfl, q1548⟩ (by omega) (by omega) (fun j hj => if_neg (by omega)) 1 30 (by omega)) (by have h := g_rec (r := 11) (ci := 10) hK hG v_li rfl k_li; rw [e_li] at h; exact h) q657 q533 q534 q71 q535 (by decide +kernel) ⟨rfl, rfl⟩ hR ⟨Nat.le_of_ble_eq_true rfl, Nat.le_of_ble_eq_true rfl⟩ ⟨(by rw [hR]; show _ ≤ _; (try unfold amr); (try simp only []); omega), (by rw [hR]; show _ ≤ _; (try unfold amr); (try simp only []); omega)⟩ hG hS rfl hl.1 rfl (Nat.le_of_ble_eq_true rfl) dX0_slice_128) hS (fun z66 ad67 V68 C69 H locs hp70 hG hS => ?_)
          obtain ⟨rfl, rfl, xq9, cap1, hc9, e_ar, k_ar, k_li, o1, o2⟩ := hp70
          have e_mn : ad67 0 = ad 0 := (o1 0 (by omega) (by omega)).trans e_mn
          have k_mn : C69 0 = .inr (0, [.ref (ad 1), .int (iI (I 48)), (if S 0 2 = 0 then .null else .ref (ad 30)), .ref (ad 2), .ref (ad 3), .ref (ad 11), .ref (ad 12), .ref (ad 13), .ref (ad 14), .ref (ad 4), .ref (ad 5), .int (iI (I 15)), .int (iI (I 22)), .int (iI (I 23)), .int (iI (I 24)), .int (iI (I 25)), .ref (ad 19), .ref (ad 20), .ref (ad 9), .ref (ad 6), .ref (ad 7), .ref (ad 10), .int (iI (I 41)), .int (iI (I 44)), .ref (ad 8), .int (iI (I 45))]) := (o2 0 (by omega) (by omega) (by omega)).trans k_mn
          have e_li : ad67 11 = ad 11 := (o1 11 (by omega) (by omega)).trans e_li
          have e_it : ad67 (3000 + k) = x5 := (o1 (3000 + k) (by omega) (by omega)).trans e_it
          have k_it : C69 (3000 + k) = .inr (3, [.int (iI ln), .ref x21]) := (o2 (3000 + k) (by omega) (by omega) (by omega)).trans k_it
          have e_ha : ad67 (3100 + k) = x21 := (o1 (3100 + k) (by omega) (by omega)).trans e_ha
          have k_ha : C69 (3100 + k) = .inl (E 0, 10, ai (updZ (updZ (updZ (updZ (updZ (updZ (updZ (updZ (updZ (updZ (fun _ => 0) 4 (lo.tmod 10)) (4 + 5) (up.tmod 10)) 3 ((lo.tdiv 10).tmod 10)) (3 + 5) ((up.tdiv 10).tmod 10)) 2 (((lo.tdiv 10).tdiv 10).tmod 10)) (2 + 5) (((up.tdiv 10).tdiv 10).tmod 10)) 1 ((((lo.tdiv 10).tdiv 10).tdiv 10).tmod 10)) (1 + 5) ((((up.tdiv 10).tdiv 10).tdiv 10).tmod 10)) 0 (((((lo.tdiv 10).tdiv 10).tdiv 10).tdiv 10).tmod 10)) (0 + 5) (((((up.tdiv 10).tdiv 10).tdiv 10).tdiv 10).tmod 10))) := (o2 (3100 + k) (by omega) (by omega) (by omega)).trans k_ha
          have hOa : ∀ q, (q ≠ 3000 + k ∧ q ≠ 3100 + k ∧ q ≠ 29 ∧ q ≠ 15) → ad67 q = ad q := fun q hq => (o1 q (by omega) (by omega)).trans (hOa q (by omega))
          have hOc : ∀ q, (q ≠ 3000 + k ∧ q ≠ 3100 + k ∧ q ≠ 29 ∧ q ≠ 15 ∧ q ≠ 11) → C69 q = cC E ad I F S Y L q := fun q hq => (o2 q (by omega) (by omega) (by omega)).trans (hOc q (by omega))
          refine W.eq (g2 := F0 m 131 ls [.int (iI 1)]) rfl ?_
          refine lv_istore (lv' := [(7, .int (iI 1)), (6, .int (iI (((((up.tdiv 10).tdiv 10).tdiv 10).tdiv 10).tdiv 10))), (5, .int (iI (((((lo.tdiv 10).tdiv 10).tdiv 10).tdiv 10).tdiv 10))), (4, .ref x5), (0, .ref (ad 0)), (1, .int (iI ln)), (2, .int (iI lo)), (3, .int (iI up))]) hx hb dX0_slice_131 hl (by decide) rfl (fun ls hl => ?_)
          refine lv_aload_n hx hb dX0_slice_133 rfl (lv_at hl 4 rfl) ?_
          refine a_get hCK hG 0 e_mn v_mn k_mn (ci := 0) rfl in_X0 5 (by decide) q202 rfl rfl dX0_slice_134 ?_
          refine W.eq (g2 := F0 m 137 ls [.ref (ad 11)]) rfl ?_
          refine s_calli (j_runV (n := 0) (C := RJ2) (b := ad 11) (rest := []) (as := []) hx hb hml hown hts ((by have h := met_lsize l adK adV st D E A V15 ad67 C69 11 15 (S 11 0 + 1) (I 1 + 1) v_li (by rw [e_ar]; exact k_li); rw [e_li] at h; exact h)) GB.blind (GB.at hK hG hE hS) (by have h := g_rec (r := 11) (ci := 10) hK hG v_li rfl k_li; rw [e_li] at h; exact h) q641 q614 q615 q71 q616 (by decide +kernel) ⟨rfl, rfl⟩ hR ⟨Nat.le_of_ble_eq_true rfl, Nat.le_of_ble_eq_true rfl⟩ ⟨(by rw [hR]; show _ ≤ _; (try unfold amr); (try simp only []); omega), (by rw [hR]; show _ ≤ _; (try unfold amr); (try simp only []); omega)⟩ rfl hl.1 rfl (Nat.le_of_ble_eq_true rfl) dX0_slice_137) ?_
          refine r_iconst hx hb dX0_slice_140 ?_
          refine r_isub hx hb dX0_slice_141 ?_
          have hcap1 : (4 ≤ cap1 ∧ cap1 ≤ 20) ∧ I 1 + 1 ≤ (cap1 : Int) := by omega
          have hv9 : ∀ r, cV (va_up nv 0 (nv 0 + 1)) (sliceF I F ln lo up) (up2 S 11 0 (S 11 0 + 1)) r → V15 r := by
            intro r hr
            have h := cVu_0 (F := F) (S := S) (k := k) hkn rfl rfl rfl (by rw [← hkn]; exact hr)
            rw [hV18]
            rcases h with h | h | h
            · exact Or.inl (by rw [hV12]; exact Or.inl h)
            · exact Or.inl (by rw [hV12]; exact Or.inr h)
            · exact Or.inr h
          have hc9e : ∀ r, cV (va_up nv 0 (nv 0 + 1)) (sliceF I F ln lo up) (up2 S 11 0 (S 11 0 + 1)) r → cEq (C69 r) (cC E ad67 (va_up I 1 (I 1 + 1)) (sliceF I F ln lo up) (up2 S 11 0 (S 11 0 + 1)) Y (va_up L 15 cap1) r) := by
            intro r hr
            by_cases c1 : r = 11
            · subst c1; exact Or.inl (by rw [k_li, cC_l (by decide), ← e_ar]; rfl)
            by_cases c2 : r = 15
            · subst c2
              rw [k_ar, cC_e (by decide)]
              have e1 : va_up L 15 cap1 15 = cap1 := va_up_s _ _ _
              rw [e1]
              refine cEq_r (fun j hj => ?_)
              show va_up (fun j : Nat => if (j : Int) < I 1 then some (ad (3000 + j)) else none) (I 1).toNat (some x5) j = if (j : Int) < I 1 + 1 then some (ad67 (3000 + j)) else none
              by_cases cj : j = (I 1).toNat
              · rw [cj, va_up_s, if_pos (by omega), show 3000 + (I 1).toNat = 3000 + k by omega, e_it]
              · rw [va_up_ne _ _ cj]
                by_cases cl : (j : Int) < I 1
                · rw [if_pos cl, if_pos (by omega), hOa (3000 + j) (by omega)]
                · rw [if_neg cl, if_neg (by omega)]
            by_cases c3 : r = 3100 + k
            · subst c3
              rw [k_ha, cC_a (by omega)]
              have ea : aK (3100 + k) = (0, 10) := by unfold aK; repeat (first | rw [if_neg (by omega)])
              rw [ea]
              refine cEq_i (fun j hj => ?_)
              have hj : j < 10 := hj
              have ey : aY (sliceF I F ln lo up) Y (3100 + k) = fun z => sliceF I F ln lo up 3 (10 * (k : Int) + z) := by
                unfold aY
                rw [if_neg (by omega), if_neg (by omega), if_neg (by omega), if_neg (by omega), if_neg (by omega), if_neg (by omega), if_pos (by omega), show 3100 + k - 3100 = k by omega]
              rw [ey]
              show _ = sliceF I F ln lo up 3 (10 * (k : Int) + (j : Int))
              rw [← hk]
              rcases (show j = 0 ∨ j = 1 ∨ j = 2 ∨ j = 3 ∨ j = 4 ∨ j = 5 ∨ j = 6 ∨ j = 7 ∨ j = 8 ∨ j = 9 by omega) with rfl | rfl | rfl | rfl | rfl | rfl | rfl | rfl | rfl | rfl <;> (rw [sliceF_3]; unfold updZ; repeat (first | rw [if_pos (by omega)] | rw [if_neg (by omega)]))
            by_cases c4 : r = 3000 + k
            · subst c4
              refine Or.inl ?_
              rw [k_it, cC_sl (by omega), ← e_ha]
              have f2 : (sliceF I F ln lo up) 2 (k : Int) = ln := by rw [← hk]; simp [upF, va_up, updZ, sliceF]
              rw [f2]
            have h29 : r ≠ 29 := fun z => hrn (z ▸ hv9 r hr)
            rw [hOc r (by omega)]
            exact cCg_0 (F1 := (sliceF I F ln lo up)) k hk12 (by omega) (fun j n2 n3 => by simp [upF, va_up, sliceF, n2, n3]) (fun j z n3 nz => sliceF_k n3 (by rw [hk]; exact nz)) (fun z hz => sliceF_o (by rw [hk]; exact hz)) (fun q h1 h2 h3 h4 => hOa q (by omega)) c1 c2 c4 c3
          have hG := hG.cgE hv9 hc9e
          refine W.eq (g2 := F0 m 142 ls [.int (iI (I 1))]) (by rw [show I 1 + 1 - 1 = I 1 by omega]) ?_
          exact a_iret hCK hQ hr hlk hG hS (by omega) (by omega) dX0_slice_142 (Or.inl ⟨by omega, rfl, cap1, rfl, rfl, hcap1⟩)
        · refine r_iconst hx hb dX0_slice_48 ?_
          exact a_iret hCK hQ hr hlk hG hS (by omega) (by omega) dX0_slice_49 (Or.inr ⟨by omega, rfl, rfl, rfl, rfl⟩)
theorem dX0_weight_0 : decode cX0_weight 0 = .ok (.iload_n 1, 1) := by decide +kernel
theorem dX0_weight_1 : decode cX0_weight 1 = .ok (.i2l, 1) := by decide +kernel
theorem dX0_weight_2 : decode cX0_weight 2 = .ok (.lconst 1, 1) := by decide +kernel
theorem dX0_weight_3 : decode cX0_weight 3 = .ok (.ldc2_w 139, 3) := by decide +kernel
theorem dX0_weight_6 : decode cX0_weight 6 = .ok (.invokestatic 101, 3) := by decide +kernel
theorem dX0_weight_9 : decode cX0_weight 9 = .ok (.ifCond .eq 56, 3) := by decide +kernel
theorem dX0_weight_12 : decode cX0_weight 12 = .ok (.iload_n 2, 1) := by decide +kernel
theorem dX0_weight_13 : decode cX0_weight 13 = .ok (.i2l, 1) := by decide +kernel
theorem dX0_weight_14 : decode cX0_weight 14 = .ok (.ldc2_w 141, 3) := by decide +kernel
theorem dX0_weight_17 : decode cX0_weight 17 = .ok (.ldc2_w 143, 3) := by decide +kernel
theorem dX0_weight_20 : decode cX0_weight 20 = .ok (.invokestatic 101, 3) := by decide +kernel
theorem dX0_weight_23 : decode cX0_weight 23 = .ok (.ifCond .eq 42, 3) := by decide +kernel
theorem dX0_weight_26 : decode cX0_weight 26 = .ok (.iload_n 3, 1) := by decide +kernel
theorem dX0_weight_27 : decode cX0_weight 27 = .ok (.i2l, 1) := by decide +kernel
theorem dX0_weight_28 : decode cX0_weight 28 = .ok (.lconst 0, 1) := by decide +kernel
theorem dX0_weight_29 : decode cX0_weight 29 = .ok (.ldc2_w 145, 3) := by decide +kernel
theorem dX0_weight_32 : decode cX0_weight 32 = .ok (.invokestatic 101, 3) := by decide +kernel
theorem dX0_weight_35 : decode cX0_weight 35 = .ok (.ifCond .eq 30, 3) := by decide +kernel
theorem dX0_weight_38 : decode cX0_weight 38 = .ok (.iload 4, 2) := by decide +kernel
theorem dX0_weight_40 : decode cX0_weight 40 = .ok (.i2l, 1) := by decide +kernel
theorem dX0_weight_41 : decode cX0_weight 41 = .ok (.ldc2_w 147, 3) := by decide +kernel
theorem dX0_weight_44 : decode cX0_weight 44 = .ok (.ldc2_w 149, 3) := by decide +kernel
theorem dX0_weight_47 : decode cX0_weight 47 = .ok (.invokestatic 101, 3) := by decide +kernel
theorem dX0_weight_50 : decode cX0_weight 50 = .ok (.ifCond .eq 15, 3) := by decide +kernel
theorem dX0_weight_53 : decode cX0_weight 53 = .ok (.aload_n 0, 1) := by decide +kernel
theorem dX0_weight_54 : decode cX0_weight 54 = .ok (.getfield 38, 3) := by decide +kernel
theorem dX0_weight_57 : decode cX0_weight 57 = .ok (.invokevirtual 125, 3) := by decide +kernel
theorem dX0_weight_60 : decode cX0_weight 60 = .ok (.bipush 12, 2) := by decide +kernel
theorem dX0_weight_62 : decode cX0_weight 62 = .ok (.if_icmp .ne 5, 3) := by decide +kernel
theorem dX0_weight_65 : decode cX0_weight 65 = .ok (.iconst (-1), 1) := by decide +kernel
theorem dX0_weight_66 : decode cX0_weight 66 = .ok (.ireturn, 1) := by decide +kernel
theorem dX0_weight_67 : decode cX0_weight 67 = .ok (.aload_n 0, 1) := by decide +kernel
theorem dX0_weight_68 : decode cX0_weight 68 = .ok (.getfield 68, 3) := by decide +kernel
theorem dX0_weight_71 : decode cX0_weight 71 = .ok (.getfield 151, 3) := by decide +kernel
theorem dX0_weight_74 : decode cX0_weight 74 = .ok (.aload_n 0, 1) := by decide +kernel
theorem dX0_weight_75 : decode cX0_weight 75 = .ok (.getfield 38, 3) := by decide +kernel
theorem dX0_weight_78 : decode cX0_weight 78 = .ok (.invokevirtual 125, 3) := by decide +kernel
theorem dX0_weight_81 : decode cX0_weight 81 = .ok (.iload_n 2, 1) := by decide +kernel
theorem dX0_weight_82 : decode cX0_weight 82 = .ok (.iastore, 1) := by decide +kernel
theorem dX0_weight_83 : decode cX0_weight 83 = .ok (.aload_n 0, 1) := by decide +kernel
theorem dX0_weight_84 : decode cX0_weight 84 = .ok (.getfield 38, 3) := by decide +kernel
theorem dX0_weight_87 : decode cX0_weight 87 = .ok (.new 154, 3) := by decide +kernel
theorem dX0_weight_90 : decode cX0_weight 90 = .ok (.dup, 1) := by decide +kernel
theorem dX0_weight_91 : decode cX0_weight 91 = .ok (.iload_n 1, 1) := by decide +kernel
theorem dX0_weight_92 : decode cX0_weight 92 = .ok (.iload_n 2, 1) := by decide +kernel
theorem dX0_weight_93 : decode cX0_weight 93 = .ok (.iload_n 3, 1) := by decide +kernel
theorem dX0_weight_94 : decode cX0_weight 94 = .ok (.iload 4, 2) := by decide +kernel
theorem dX0_weight_96 : decode cX0_weight 96 = .ok (.invokespecial 156, 3) := by decide +kernel
theorem dX0_weight_99 : decode cX0_weight 99 = .ok (.invokevirtual 135, 3) := by decide +kernel
theorem dX0_weight_102 : decode cX0_weight 102 = .ok (.istore 5, 2) := by decide +kernel
theorem dX0_weight_104 : decode cX0_weight 104 = .ok (.aload_n 0, 1) := by decide +kernel
theorem dX0_weight_105 : decode cX0_weight 105 = .ok (.getfield 38, 3) := by decide +kernel
theorem dX0_weight_108 : decode cX0_weight 108 = .ok (.invokevirtual 125, 3) := by decide +kernel
theorem dX0_weight_111 : decode cX0_weight 111 = .ok (.iconst 1, 1) := by decide +kernel
theorem dX0_weight_112 : decode cX0_weight 112 = .ok (.isub, 1) := by decide +kernel
theorem dX0_weight_113 : decode cX0_weight 113 = .ok (.ireturn, 1) := by decide +kernel
set_option maxHeartbeats 4000000 in
theorem cweight (l : Launch) (adK adV st : Nat → Nat) (D : va_G) (E : Nat → ClassId) (A : Nat → Prop) (ad nv : Nat → Nat) (I : Nat → Int) (F : Nat → Int → Int) (S : Nat → Nat → Int) (Y : Nat → Int → Int) (L : Nat → Nat) (ma pl ht mk : Int) (r_ma : R32 ma) (r_pl : R32 pl) (r_ht : R32 ht) (r_mk : R32 mk) (hn : cOK nv I L) (gh0 : gHull I F) (gl0 : gLoad I F) (gs0 : gSea I F) (hcap : 4 ≤ L 16 ∧ L 16 ≤ 20) (hz9 : ∀ z, I 4 ≤ z → F 9 z = 0) : AM l yX0_weight cX0_weight 6 (some .int) (amr 8 2 35) adK adV st D E A [.ref (ad 0), .int (iI ma), .int (iI pl), .int (iI ht), .int (iI mk)] (cV nv F S) ad (cC E ad I F S Y L) (AQi D E A (fun z ad1 V1 C1 => (((1 ≤ ma ∧ ma ≤ 500) ∧ (-19 ≤ pl ∧ pl ≤ 19) ∧ (0 ≤ ht ∧ ht ≤ 40) ∧ (-1 ≤ mk ∧ mk ≤ 80) ∧ I 4 ≠ 12) ∧ I 4 = z ∧ ∃ cap1, V1 = cV (va_up nv 1 (nv 1 + 1)) (upF (upF (upF (upF (upF F 5 (I 4) ma) 6 (I 4) pl) 27 (I 4) pl) 7 (I 4) ht) 8 (I 4) mk) (up2 S 12 0 (S 12 0 + 1)) ∧ C1 = cC E ad1 (va_up I 4 (I 4 + 1)) (upF (upF (upF (upF (upF F 5 (I 4) ma) 6 (I 4) pl) 27 (I 4) pl) 7 (I 4) ht) 8 (I 4) mk) (up2 S 12 0 (S 12 0 + 1)) (va_up Y 21 (updZ (Y 21) (I 4) pl)) (va_up L 16 cap1) ∧ (4 ≤ cap1 ∧ cap1 ≤ 20) ∧ I 4 + 1 ≤ (cap1 : Int)) ∨ (¬ ((1 ≤ ma ∧ ma ≤ 500) ∧ (-19 ≤ pl ∧ pl ≤ 19) ∧ (0 ≤ ht ∧ ht ≤ 40) ∧ (-1 ≤ mk ∧ mk ≤ 80) ∧ I 4 ≠ 12) ∧ -1 = z ∧ ad = ad1 ∧ V1 = cV nv F S ∧ C1 = cC E ad I F S Y L))) 2 35 := by
  refine a_start (by decide) rfl (Nat.le_of_ble_eq_true rfl) ?_
  intro p e R s m args below meth c ls Q hR hQ hCK hml hr hlk hnme hG hS hE hA hl
  have hx := hCK.1
  have hb := hCK.2.1
  have hown := hCK.2.2.1
  have hts := hCK.2.2.2.1
  have hK := hCK.2.2.2.2
  have hl : lv_has ls 6 [(0, .ref (ad 0)), (1, .int (iI ma)), (2, .int (iI pl)), (3, .int (iI ht)), (4, .int (iI mk))] := hl
  obtain ⟨⟨n0, n1, n2, n3⟩, ⟨l0, l1, l2, l3⟩, c0, c1, c2, c3⟩ := id hn
  have b1 := gh0.1
  have b4 := gl0.1
  have b10 := gl0.2.2.2.2.2.2.1
  have b18 := gs0.1
  have v_mn : cV nv F S 0 := Or.inl (by decide)
  have e_mn : ad 0 = ad 0 := rfl
  have k_mn : cC E ad I F S Y L 0 = .inr (0, [.ref (ad 1), .int (iI (I 48)), (if S 0 2 = 0 then .null else .ref (ad 30)), .ref (ad 2), .ref (ad 3), .ref (ad 11), .ref (ad 12), .ref (ad 13), .ref (ad 14), .ref (ad 4), .ref (ad 5), .int (iI (I 15)), .int (iI (I 22)), .int (iI (I 23)), .int (iI (I 24)), .int (iI (I 25)), .ref (ad 19), .ref (ad 20), .ref (ad 9), .ref (ad 6), .ref (ad 7), .ref (ad 10), .int (iI (I 41)), .int (iI (I 44)), .ref (ad 8), .int (iI (I 45))]) := cC_0
  have v_li : cV nv F S 12 := Or.inl (by decide)
  have e_li : ad 12 = ad 12 := rfl
  have k_li : cC E ad I F S Y L 12 = .inr (10, [.int (iI (S 12 0)), .ref (ad 16), .int (iI (I 4))]) := cC_l (by decide)
  have v_ar : cV nv F S 16 := Or.inl (by decide)
  have e_ar : ad 16 = ad 16 := rfl
  have k_ar : cC E ad I F S Y L 16 = .inl (E 5, (L 16), ar (fun j => if (j : Int) < I 4 then some (ad (3200 + j)) else none)) := cC_e (by decide)
  have v_sh : cV nv F S 19 := Or.inl (by decide)
  have e_sh : ad 19 = ad 19 := rfl
  have k_sh : cC E ad I F S Y L 19 = .inr (1, [.ref (ad 21), .ref (ad 22), .ref (ad 23), .ref (ad 24), .int (iI (S 19 4)), .int (iI (S 19 5)), .int (iI (S 19 6)), .int (iI (S 19 7)), .int (iI (S 19 8)), .int (iI (S 19 9)), .int (iI (S 19 10)), .int (iI (S 19 11)), .int (iI (S 19 12)), .ref (ad 0)]) := cC_s (Or.inl rfl)
  have v_pl : cV nv F S 21 := Or.inl (by decide)
  have e_pl : ad 21 = ad 21 := rfl
  have k_pl : cC E ad I F S Y L 21 = .inl (E 0, 12, ai (Y 21)) := cC_a (by decide)
  refine lv_iload_n hx hb dX0_weight_0 rfl (lv_at hl 1 rfl) ?_
  refine r_i2l hx hb dX0_weight_1 r_ma ?_
  refine r_lconst hx hb 1 dX0_weight_2 (by decide) ?_
  refine r_ldc2 hx hb 500 hown (hts _ q662) (by decide) dX0_weight_3 ?_
  refine s_calli (j_runS (n := 3) (rest := []) (as := [.long (iL ma), .long (iL 1), .long (iL 500)]) hx hb hml hown hts ((cin l ma 1 500 (by omega) (by decide) (by decide)).jm) (fun _ _ _ _ _ => trivial) (fun _ _ _ => trivial) q296 q297 q68 q298 (by decide +kernel) ⟨rfl, rfl⟩ hR ⟨Nat.le_of_ble_eq_true rfl, Nat.le_of_ble_eq_true rfl⟩ ⟨Nat.zero_le _, Nat.zero_le _⟩ rfl hl.1 rfl (Nat.le_of_ble_eq_true rfl) dX0_weight_6) ?_
  refine r_ifeqB (tgt := 65) hx hb dX0_weight_9 (by decide) (fun c1 => ?_) (fun c1 => ?_)
  · refine r_iconst hx hb dX0_weight_65 ?_
    exact a_iret hCK hQ hr hlk hG hS (by omega) (by omega) dX0_weight_66 (Or.inr ⟨by omega, rfl, rfl, rfl, rfl⟩)
  · refine lv_iload_n hx hb dX0_weight_12 rfl (lv_at hl 2 rfl) ?_
    refine r_i2l hx hb dX0_weight_13 r_pl ?_
    refine r_ldc2 hx hb (-19) hown (hts _ q663) (by decide) dX0_weight_14 ?_
    refine r_ldc2 hx hb 19 hown (hts _ q664) (by decide) dX0_weight_17 ?_
    refine s_calli (j_runS (n := 3) (rest := []) (as := [.long (iL pl), .long (iL (-19)), .long (iL 19)]) hx hb hml hown hts ((cin l pl (-19) 19 (by omega) (by decide) (by decide)).jm) (fun _ _ _ _ _ => trivial) (fun _ _ _ => trivial) q296 q297 q68 q298 (by decide +kernel) ⟨rfl, rfl⟩ hR ⟨Nat.le_of_ble_eq_true rfl, Nat.le_of_ble_eq_true rfl⟩ ⟨Nat.zero_le _, Nat.zero_le _⟩ rfl hl.1 rfl (Nat.le_of_ble_eq_true rfl) dX0_weight_20) ?_
    refine r_ifeqB (tgt := 65) hx hb dX0_weight_23 (by decide) (fun c2 => ?_) (fun c2 => ?_)
    · refine r_iconst hx hb dX0_weight_65 ?_
      exact a_iret hCK hQ hr hlk hG hS (by omega) (by omega) dX0_weight_66 (Or.inr ⟨by omega, rfl, rfl, rfl, rfl⟩)
    · refine lv_iload_n hx hb dX0_weight_26 rfl (lv_at hl 3 rfl) ?_
      refine r_i2l hx hb dX0_weight_27 r_ht ?_
      refine r_lconst hx hb 0 dX0_weight_28 (by decide) ?_
      refine r_ldc2 hx hb 40 hown (hts _ q665) (by decide) dX0_weight_29 ?_
      refine s_calli (j_runS (n := 3) (rest := []) (as := [.long (iL ht), .long (iL 0), .long (iL 40)]) hx hb hml hown hts ((cin l ht 0 40 (by omega) (by decide) (by decide)).jm) (fun _ _ _ _ _ => trivial) (fun _ _ _ => trivial) q296 q297 q68 q298 (by decide +kernel) ⟨rfl, rfl⟩ hR ⟨Nat.le_of_ble_eq_true rfl, Nat.le_of_ble_eq_true rfl⟩ ⟨Nat.zero_le _, Nat.zero_le _⟩ rfl hl.1 rfl (Nat.le_of_ble_eq_true rfl) dX0_weight_32) ?_
      refine r_ifeqB (tgt := 65) hx hb dX0_weight_35 (by decide) (fun c3 => ?_) (fun c3 => ?_)
      · refine r_iconst hx hb dX0_weight_65 ?_
        exact a_iret hCK hQ hr hlk hG hS (by omega) (by omega) dX0_weight_66 (Or.inr ⟨by omega, rfl, rfl, rfl, rfl⟩)
      · refine lv_iload hx hb dX0_weight_38 (lv_at hl 4 rfl) ?_
        refine r_i2l hx hb dX0_weight_40 r_mk ?_
        refine r_ldc2 hx hb (-1) hown (hts _ q666) (by decide) dX0_weight_41 ?_
        refine r_ldc2 hx hb 80 hown (hts _ q667) (by decide) dX0_weight_44 ?_
        refine s_calli (j_runS (n := 3) (rest := []) (as := [.long (iL mk), .long (iL (-1)), .long (iL 80)]) hx hb hml hown hts ((cin l mk (-1) 80 (by omega) (by decide) (by decide)).jm) (fun _ _ _ _ _ => trivial) (fun _ _ _ => trivial) q296 q297 q68 q298 (by decide +kernel) ⟨rfl, rfl⟩ hR ⟨Nat.le_of_ble_eq_true rfl, Nat.le_of_ble_eq_true rfl⟩ ⟨Nat.zero_le _, Nat.zero_le _⟩ rfl hl.1 rfl (Nat.le_of_ble_eq_true rfl) dX0_weight_47) ?_
        refine r_ifeqB (tgt := 65) hx hb dX0_weight_50 (by decide) (fun c4 => ?_) (fun c4 => ?_)
        · refine r_iconst hx hb dX0_weight_65 ?_
          exact a_iret hCK hQ hr hlk hG hS (by omega) (by omega) dX0_weight_66 (Or.inr ⟨by omega, rfl, rfl, rfl, rfl⟩)
        · refine lv_aload_n hx hb dX0_weight_53 rfl (lv_at hl 0 rfl) ?_
          refine a_get hCK hG 0 e_mn v_mn k_mn (ci := 0) rfl in_X0 6 (by decide) q203 rfl rfl dX0_weight_54 ?_
          refine W.eq (g2 := F0 m 57 ls [.ref (ad 12)]) rfl ?_
          refine s_calli (j_runV (n := 0) (C := RJ2) (b := ad 12) (rest := []) (as := []) hx hb hml hown hts ((by have h := met_lsize l adK adV st D E A (cV nv F S) ad (cC E ad I F S Y L) 12 16 (S 12 0) (I 4) v_li (by rw [e_ar]; exact k_li); rw [e_li] at h; exact h)) GB.blind (GB.at hK hG hE hS) (by have h := g_rec (r := 12) (ci := 10) hK hG v_li rfl k_li; rw [e_li] at h; exact h) q641 q614 q615 q71 q616 (by decide +kernel) ⟨rfl, rfl⟩ hR ⟨Nat.le_of_ble_eq_true rfl, Nat.le_of_ble_eq_true rfl⟩ ⟨Nat.zero_le _, Nat.zero_le _⟩ rfl hl.1 rfl (Nat.le_of_ble_eq_true rfl) dX0_weight_57) ?_
          refine r_bipush hx hb dX0_weight_60 (by decide) ?_
          refine r_icmp_ne (tgt := 67) hx hb dX0_weight_62 (by decide) (by omega) (by decide) (fun c5 => ?_) (fun c5 => ?_)
          · obtain ⟨k, hk⟩ : ∃ k : Nat, I 4 = (k : Int) := ⟨(I 4).toNat, by omega⟩
            have hkn : nv 1 = k := by omega
            have hk12 : k < 12 := by omega
            have hnk : ¬ cV nv F S (3200 + k) := by unfold cV; omega
            have hn29 : ¬ cV nv F S 29 := by unfold cV; omega
            have hel : elOK (cV nv F S) ad (cC E ad I F S Y L) 12 16 (fun j : Nat => if (j : Int) < I 4 then some (ad (3200 + j)) else none) := by
              intro i y hy
              by_cases ci : (i : Int) < I 4
              · have hy : (if (i : Int) < I 4 then some (ad (3200 + i)) else none) = some y := hy
                rw [if_pos ci] at hy
                cases hy
                exact ⟨3200 + i, rfl, by unfold cV; omega, by omega, by omega, 4, _, _, cC_wt (by omega), rfl, q1549⟩
              · have hy : (if (i : Int) < I 4 then some (ad (3200 + i)) else none) = some y := hy
                rw [if_neg ci] at hy
                cases hy
            have hOa : ∀ q, (q ≠ 3200 + k ∧ q ≠ 21) → ad q = ad q := fun _ _ => rfl
            have hOc : ∀ q, (q ≠ 3200 + k ∧ q ≠ 21) → cC E ad I F S Y L q = cC E ad I F S Y L q := fun _ _ => rfl
            have k_pl0 := k_pl
            refine lv_aload_n hx hb dX0_weight_67 rfl (lv_at hl 0 rfl) ?_
            refine a_get hCK hG 0 e_mn v_mn k_mn (ci := 0) rfl in_X0 16 (by decide) q221 rfl rfl dX0_weight_68 ?_
            refine W.eq (g2 := F0 m 71 ls [.ref (ad 19)]) rfl ?_
            refine a_getN hCK hE hG 19 e_sh v_sh k_sh (ci := 1) rfl in_X1 0 (by decide) q137 rfl rfl dX0_weight_71 ?_
            refine W.eq (g2 := F0 m 74 ls [.ref (ad 21)]) rfl ?_
            refine lv_aload_n hx hb dX0_weight_74 rfl (lv_at hl 0 rfl) ?_
            refine a_get hCK hG 0 e_mn v_mn k_mn (ci := 0) rfl in_X0 6 (by decide) q203 rfl rfl dX0_weight_75 ?_
            refine W.eq (g2 := F0 m 78 ls [.ref (ad 12), .ref (ad 21)]) rfl ?_
            refine s_calli (j_runV (n := 0) (C := RJ2) (b := ad 12) (rest := [.ref (ad 21)]) (as := []) hx hb hml hown hts ((by have h := met_lsize l adK adV st D E A (cV nv F S) ad (cC E ad I F S Y L) 12 16 (S 12 0) (I 4) v_li (by rw [e_ar]; exact k_li); rw [e_li] at h; exact h)) GB.blind (GB.at hK hG hE hS) (by have h := g_rec (r := 12) (ci := 10) hK hG v_li rfl k_li; rw [e_li] at h; exact h) q641 q614 q615 q71 q616 (by decide +kernel) ⟨rfl, rfl⟩ hR ⟨Nat.le_of_ble_eq_true rfl, Nat.le_of_ble_eq_true rfl⟩ ⟨Nat.zero_le _, Nat.zero_le _⟩ rfl hl.1 rfl (Nat.le_of_ble_eq_true rfl) dX0_weight_78) ?_
            refine lv_iload_n hx hb dX0_weight_81 rfl (lv_at hl 2 rfl) ?_
            refine a_ist (v := pl) hCK hG hS 21 e_pl v_pl k_pl (by decide) (by omega) dX0_weight_82 (fun C6 H locs kk7 oo8 hG hS => ?_)
            have k_pl : C6 21 = .inl (E 0, 12, ai (updZ (Y 21) (I 4) pl)) := kk7
            have k_mn : C6 0 = .inr (0, [.ref (ad 1), .int (iI (I 48)), (if S 0 2 = 0 then .null else .ref (ad 30)), .ref (ad 2), .ref (ad 3), .ref (ad 11), .ref (ad 12), .ref (ad 13), .ref (ad 14), .ref (ad 4), .ref (ad 5), .int (iI (I 15)), .int (iI (I 22)), .int (iI (I 23)), .int (iI (I 24)), .int (iI (I 25)), .ref (ad 19), .ref (ad 20), .ref (ad 9), .ref (ad 6), .ref (ad 7), .ref (ad 10), .int (iI (I 41)), .int (iI (I 44)), .ref (ad 8), .int (iI (I 45))]) := (oo8 0 (by omega)).trans k_mn
            have k_li : C6 12 = .inr (10, [.int (iI (S 12 0)), .ref (ad 16), .int (iI (I 4))]) := (oo8 12 (by omega)).trans k_li
            have k_ar : C6 16 = .inl (E 5, (L 16), ar (fun j => if (j : Int) < I 4 then some (ad (3200 + j)) else none)) := (oo8 16 (by omega)).trans k_ar
            have k_sh : C6 19 = .inr (1, [.ref (ad 21), .ref (ad 22), .ref (ad 23), .ref (ad 24), .int (iI (S 19 4)), .int (iI (S 19 5)), .int (iI (S 19 6)), .int (iI (S 19 7)), .int (iI (S 19 8)), .int (iI (S 19 9)), .int (iI (S 19 10)), .int (iI (S 19 11)), .int (iI (S 19 12)), .ref (ad 0)]) := (oo8 19 (by omega)).trans k_sh
            have hOa : ∀ q, (q ≠ 3200 + k ∧ q ≠ 21) → ad q = ad q := hOa
            have hOc : ∀ q, (q ≠ 3200 + k ∧ q ≠ 21) → C6 q = (cC E ad I F S Y L) q := fun q hq => (oo8 q (by omega)).trans (hOc q hq)
            refine lv_aload_n hx hb dX0_weight_83 rfl (lv_at hl 0 rfl) ?_
            refine a_get hCK hG 0 e_mn v_mn k_mn (ci := 0) rfl in_X0 6 (by decide) q203 rfl rfl dX0_weight_84 ?_
            refine W.eq (g2 := F0 m 87 ls [.ref (ad 12)]) rfl ?_
            refine a_new (ci := 4) (fs := [.int (iI 0), .int (iI 0), .int (iI 0), .int (iI 0), .int (iI 0)]) tyX4 hCK hG hS hA (3200 + k) in_X4 tyX4_ok q668 q669 q79 rfl (by decide) (by rw [hR]; show _ ≤ _; (try unfold amr); (try simp only []); omega) (by rw [hR]; show _ ≤ _; (try unfold amr); (try simp only []); omega) dX0_weight_87 (fun x9 ad10 C11 H e_it k_it oo14 hG hS oh15 => ?_)
            obtain ⟨V16, hV16⟩ : ∃ X : Nat → Prop, X = fun q => (cV nv F S) q ∨ q = 3200 + k := ⟨_, rfl⟩
            rw [← hV16] at hG
            have v_mn : V16 0 := by rw [hV16]; exact Or.inl v_mn
            have e_mn : ad10 0 = ad 0 := (oo14 0 (by omega)).1.trans e_mn
            have k_mn : C11 0 = .inr (0, [.ref (ad 1), .int (iI (I 48)), (if S 0 2 = 0 then .null else .ref (ad 30)), .ref (ad 2), .ref (ad 3), .ref (ad 11), .ref (ad 12), .ref (ad 13), .ref (ad 14), .ref (ad 4), .ref (ad 5), .int (iI (I 15)), .int (iI (I 22)), .int (iI (I 23)), .int (iI (I 24)), .int (iI (I 25)), .ref (ad 19), .ref (ad 20), .ref (ad 9), .ref (ad 6), .ref (ad 7), .ref (ad 10), .int (iI (I 41)), .int (iI (I 44)), .ref (ad 8), .int (iI (I 45))]) := (oo14 0 (by omega)).2.trans k_mn
            have v_li : V16 12 := by rw [hV16]; exact Or.inl v_li
            have e_li : ad10 12 = ad 12 := (oo14 12 (by omega)).1.trans e_li
            have k_li : C11 12 = .inr (10, [.int (iI (S 12 0)), .ref (ad 16), .int (iI (I 4))]) := (oo14 12 (by omega)).2.trans k_li
            have v_ar : V16 16 := by rw [hV16]; exact Or.inl v_ar
            have e_ar : ad10 16 = ad 16 := (oo14 16 (by omega)).1.trans e_ar
            have k_ar : C11 16 = .inl (E 5, (L 16), ar (fun j => if (j : Int) < I 4 then some (ad (3200 + j)) else none)) := (oo14 16 (by omega)).2.trans k_ar
            have v_sh : V16 19 := by rw [hV16]; exact Or.inl v_sh
            have e_sh : ad10 19 = ad 19 := (oo14 19 (by omega)).1.trans e_sh
            have k_sh : C11 19 = .inr (1, [.ref (ad 21), .ref (ad 22), .ref (ad 23), .ref (ad 24), .int (iI (S 19 4)), .int (iI (S 19 5)), .int (iI (S 19 6)), .int (iI (S 19 7)), .int (iI (S 19 8)), .int (iI (S 19 9)), .int (iI (S 19 10)), .int (iI (S 19 11)), .int (iI (S 19 12)), .ref (ad 0)]) := (oo14 19 (by omega)).2.trans k_sh
            have v_pl : V16 21 := by rw [hV16]; exact Or.inl v_pl
            have e_pl : ad10 21 = ad 21 := (oo14 21 (by omega)).1.trans e_pl
            have k_pl : C11 21 = .inl (E 0, 12, ai (updZ (Y 21) (I 4) pl)) := (oo14 21 (by omega)).2.trans k_pl
            have v_it : V16 (3200 + k) := by rw [hV16]; exact Or.inr rfl
            have hOa : ∀ q, (q ≠ 3200 + k ∧ q ≠ 21) → ad10 q = ad q := fun q hq => (oo14 q (by omega)).1.trans (hOa q hq)
            have hOc : ∀ q, (q ≠ 3200 + k ∧ q ≠ 21) → C11 q = (cC E ad I F S Y L) q := fun q hq => (oo14 q (by omega)).2.trans (hOc q hq)
            refine lv_dup hx hb dX0_weight_90 rfl ?_
            refine lv_iload_n hx hb dX0_weight_91 rfl (lv_at hl 1 rfl) ?_
            refine lv_iload_n hx hb dX0_weight_92 rfl (lv_at hl 2 rfl) ?_
            refine lv_iload_n hx hb dX0_weight_93 rfl (lv_at hl 3 rfl) ?_
            refine lv_iload hx hb dX0_weight_94 (lv_at hl 4 rfl) ?_
            refine a_callv (a_runI (n := 4) (b := x9) (rest := [.ref x9, .ref (ad 12)]) (as := [.int (iI ma), .int (iI pl), .int (iI ht), .int (iI mk)]) hCK hE hA hml (met_xi4 l adK adV st D E A V16 ad10 C11 (3200 + k) x9 ma pl ht mk v_it e_it k_it) q670 q671 q79 q672 rfl (by decide +kernel) ⟨rfl, rfl⟩ hR ⟨Nat.le_of_ble_eq_true rfl, Nat.le_of_ble_eq_true rfl⟩ ⟨(by rw [hR]; show _ ≤ _; (try unfold amr); (try simp only []); omega), (by rw [hR]; show _ ≤ _; (try unfold amr); (try simp only []); omega)⟩ hG hS rfl hl.1 rfl (Nat.le_of_ble_eq_true rfl) dX0_weight_96) hS (fun ad18 V19 C20 H locs hp21 hG hS => ?_)
            obtain ⟨rfl, rfl, kk23, oo22⟩ := hp21
            have k_it : C20 (3200 + k) = .inr (4, [.int (iI ma), .int (iI pl), .int (iI ht), .int (iI mk), .int (iI 0)]) := kk23
            have k_mn : C20 0 = .inr (0, [.ref (ad 1), .int (iI (I 48)), (if S 0 2 = 0 then .null else .ref (ad 30)), .ref (ad 2), .ref (ad 3), .ref (ad 11), .ref (ad 12), .ref (ad 13), .ref (ad 14), .ref (ad 4), .ref (ad 5), .int (iI (I 15)), .int (iI (I 22)), .int (iI (I 23)), .int (iI (I 24)), .int (iI (I 25)), .ref (ad 19), .ref (ad 20), .ref (ad 9), .ref (ad 6), .ref (ad 7), .ref (ad 10), .int (iI (I 41)), .int (iI (I 44)), .ref (ad 8), .int (iI (I 45))]) := (oo22 0 (by omega)).trans k_mn
            have k_li : C20 12 = .inr (10, [.int (iI (S 12 0)), .ref (ad 16), .int (iI (I 4))]) := (oo22 12 (by omega)).trans k_li
            have k_ar : C20 16 = .inl (E 5, (L 16), ar (fun j => if (j : Int) < I 4 then some (ad (3200 + j)) else none)) := (oo22 16 (by omega)).trans k_ar
            have k_sh : C20 19 = .inr (1, [.ref (ad 21), .ref (ad 22), .ref (ad 23), .ref (ad 24), .int (iI (S 19 4)), .int (iI (S 19 5)), .int (iI (S 19 6)), .int (iI (S 19 7)), .int (iI (S 19 8)), .int (iI (S 19 9)), .int (iI (S 19 10)), .int (iI (S 19 11)), .int (iI (S 19 12)), .ref (ad 0)]) := (oo22 19 (by omega)).trans k_sh
            have k_pl : C20 21 = .inl (E 0, 12, ai (updZ (Y 21) (I 4) pl)) := (oo22 21 (by omega)).trans k_pl
            have hOa : ∀ q, (q ≠ 3200 + k ∧ q ≠ 21) → ad10 q = ad q := hOa
            have hOc : ∀ q, (q ≠ 3200 + k ∧ q ≠ 21) → C20 q = (cC E ad I F S Y L) q := fun q hq => (oo22 q (by omega)).trans (hOc q hq)
            have hel : elOK V16 ad10 C20 12 16 (fun j : Nat => if (j : Int) < I 4 then some (ad (3200 + j)) else none) := by
              intro i y hy
              obtain ⟨q, h1, h2, h3, h4, ci, fs, r, h5, h6, h7⟩ := hel i y hy
              have hc : q ≠ 3200 + k ∧ q ≠ 21 := ⟨fun z => hnk (z ▸ h2), fun z => by subst z; rw [k_pl0] at h5; cases h5⟩
              exact ⟨q, h1.trans (hOa q hc).symm, by rw [hV16]; exact Or.inl h2, h3, h4, ci, fs, r, (hOc q hc).trans h5, h6, h7⟩
            have hrn : ¬ V16 29 := by
              rw [hV16]
              rintro (h | h)
              · exact hn29 h
              · omega
            refine a_calli (a_runV (n := 1) (C0 := RJ2) (b := ad 12) (rest := []) (as := [.ref x9]) hCK hE hA hml (met_add l adK adV st D E A V16 ad10 C20 12 16 (ad 12) (ad 16) (L 16) (S 12 0) (I 4) (fun j : Nat => if (j : Int) < I 4 then some (ad (3200 + j)) else none) (by decide) v_li e_li k_li v_ar e_ar k_ar hel (by omega) 29 hrn (3200 + k) x9 v_it e_it ⟨4, _, _, k_it, rfl, q1549⟩ (by omega) (by omega) (fun j hj => if_neg (by omega)) 1 30 (by omega)) (by have h := g_rec (r := 12) (ci := 10) hK hG v_li rfl k_li; rw [e_li] at h; exact h) q657 q533 q534 q71 q535 (by decide +kernel) ⟨rfl, rfl⟩ hR ⟨Nat.le_of_ble_eq_true rfl, Nat.le_of_ble_eq_true rfl⟩ ⟨(by rw [hR]; show _ ≤ _; (try unfold amr); (try simp only []); omega), (by rw [hR]; show _ ≤ _; (try unfold amr); (try simp only []); omega)⟩ hG hS rfl hl.1 rfl (Nat.le_of_ble_eq_true rfl) dX0_weight_99) hS (fun z24 ad25 V26 C27 H locs hp28 hG hS => ?_)
            obtain ⟨rfl, rfl, xq9, cap1, hc9, e_ar, k_ar, k_li, o1, o2⟩ := hp28
            have e_mn : ad25 0 = ad 0 := (o1 0 (by omega) (by omega)).trans e_mn
            have k_mn : C27 0 = .inr (0, [.ref (ad 1), .int (iI (I 48)), (if S 0 2 = 0 then .null else .ref (ad 30)), .ref (ad 2), .ref (ad 3), .ref (ad 11), .ref (ad 12), .ref (ad 13), .ref (ad 14), .ref (ad 4), .ref (ad 5), .int (iI (I 15)), .int (iI (I 22)), .int (iI (I 23)), .int (iI (I 24)), .int (iI (I 25)), .ref (ad 19), .ref (ad 20), .ref (ad 9), .ref (ad 6), .ref (ad 7), .ref (ad 10), .int (iI (I 41)), .int (iI (I 44)), .ref (ad 8), .int (iI (I 45))]) := (o2 0 (by omega) (by omega) (by omega)).trans k_mn
            have e_li : ad25 12 = ad 12 := (o1 12 (by omega) (by omega)).trans e_li
            have e_sh : ad25 19 = ad 19 := (o1 19 (by omega) (by omega)).trans e_sh
            have k_sh : C27 19 = .inr (1, [.ref (ad 21), .ref (ad 22), .ref (ad 23), .ref (ad 24), .int (iI (S 19 4)), .int (iI (S 19 5)), .int (iI (S 19 6)), .int (iI (S 19 7)), .int (iI (S 19 8)), .int (iI (S 19 9)), .int (iI (S 19 10)), .int (iI (S 19 11)), .int (iI (S 19 12)), .ref (ad 0)]) := (o2 19 (by omega) (by omega) (by omega)).trans k_sh
            have e_pl : ad25 21 = ad 21 := (o1 21 (by omega) (by omega)).trans e_pl
            have k_pl : C27 21 = .inl (E 0, 12, ai (updZ (Y 21) (I 4) pl)) := (o2 21 (by omega) (by omega) (by omega)).trans k_pl
            have e_it : ad25 (3200 + k) = x9 := (o1 (3200 + k) (by omega) (by omega)).trans e_it
            have k_it : C27 (3200 + k) = .inr (4, [.int (iI ma), .int (iI pl), .int (iI ht), .int (iI mk), .int (iI 0)]) := (o2 (3200 + k) (by omega) (by omega) (by omega)).trans k_it
            have hOa : ∀ q, (q ≠ 3200 + k ∧ q ≠ 21 ∧ q ≠ 29 ∧ q ≠ 16) → ad25 q = ad q := fun q hq => (o1 q (by omega) (by omega)).trans (hOa q (by omega))
            have hOc : ∀ q, (q ≠ 3200 + k ∧ q ≠ 21 ∧ q ≠ 29 ∧ q ≠ 16 ∧ q ≠ 12) → C27 q = cC E ad I F S Y L q := fun q hq => (o2 q (by omega) (by omega) (by omega)).trans (hOc q (by omega))
            refine W.eq (g2 := F0 m 102 ls [.int (iI 1)]) rfl ?_
            refine lv_istore (lv' := [(5, .int (iI 1)), (0, .ref (ad 0)), (1, .int (iI ma)), (2, .int (iI pl)), (3, .int (iI ht)), (4, .int (iI mk))]) hx hb dX0_weight_102 hl (by decide) rfl (fun ls hl => ?_)
            refine lv_aload_n hx hb dX0_weight_104 rfl (lv_at hl 1 rfl) ?_
            refine a_get hCK hG 0 e_mn v_mn k_mn (ci := 0) rfl in_X0 6 (by decide) q203 rfl rfl dX0_weight_105 ?_
            refine W.eq (g2 := F0 m 108 ls [.ref (ad 12)]) rfl ?_
            refine s_calli (j_runV (n := 0) (C := RJ2) (b := ad 12) (rest := []) (as := []) hx hb hml hown hts ((by have h := met_lsize l adK adV st D E A V16 ad25 C27 12 16 (S 12 0 + 1) (I 4 + 1) v_li (by rw [e_ar]; exact k_li); rw [e_li] at h; exact h)) GB.blind (GB.at hK hG hE hS) (by have h := g_rec (r := 12) (ci := 10) hK hG v_li rfl k_li; rw [e_li] at h; exact h) q641 q614 q615 q71 q616 (by decide +kernel) ⟨rfl, rfl⟩ hR ⟨Nat.le_of_ble_eq_true rfl, Nat.le_of_ble_eq_true rfl⟩ ⟨(by rw [hR]; show _ ≤ _; (try unfold amr); (try simp only []); omega), (by rw [hR]; show _ ≤ _; (try unfold amr); (try simp only []); omega)⟩ rfl hl.1 rfl (Nat.le_of_ble_eq_true rfl) dX0_weight_108) ?_
            refine r_iconst hx hb dX0_weight_111 ?_
            refine r_isub hx hb dX0_weight_112 ?_
            have hcap1 : (4 ≤ cap1 ∧ cap1 ≤ 20) ∧ I 4 + 1 ≤ (cap1 : Int) := by omega
            have hv9 : ∀ r, cV (va_up nv 1 (nv 1 + 1)) (upF (upF (upF (upF (upF F 5 (I 4) ma) 6 (I 4) pl) 27 (I 4) pl) 7 (I 4) ht) 8 (I 4) mk) (up2 S 12 0 (S 12 0 + 1)) r → V16 r := by
              intro r hr
              have h := cVu_1 (F := F) (S := S) (k := k) hkn rfl rfl rfl (by rw [← hkn]; exact hr)
              rw [hV16]
              exact h
            have hc9e : ∀ r, cV (va_up nv 1 (nv 1 + 1)) (upF (upF (upF (upF (upF F 5 (I 4) ma) 6 (I 4) pl) 27 (I 4) pl) 7 (I 4) ht) 8 (I 4) mk) (up2 S 12 0 (S 12 0 + 1)) r → cEq (C27 r) (cC E ad25 (va_up I 4 (I 4 + 1)) (upF (upF (upF (upF (upF F 5 (I 4) ma) 6 (I 4) pl) 27 (I 4) pl) 7 (I 4) ht) 8 (I 4) mk) (up2 S 12 0 (S 12 0 + 1)) (va_up Y 21 (updZ (Y 21) (I 4) pl)) (va_up L 16 cap1) r) := by
              intro r hr
              by_cases c1 : r = 12
              · subst c1; exact Or.inl (by rw [k_li, cC_l (by decide), ← e_ar]; rfl)
              by_cases c2 : r = 16
              · subst c2
                rw [k_ar, cC_e (by decide)]
                have e1 : va_up L 16 cap1 16 = cap1 := va_up_s _ _ _
                rw [e1]
                refine cEq_r (fun j hj => ?_)
                show va_up (fun j : Nat => if (j : Int) < I 4 then some (ad (3200 + j)) else none) (I 4).toNat (some x9) j = if (j : Int) < I 4 + 1 then some (ad25 (3200 + j)) else none
                by_cases cj : j = (I 4).toNat
                · rw [cj, va_up_s, if_pos (by omega), show 3200 + (I 4).toNat = 3200 + k by omega, e_it]
                · rw [va_up_ne _ _ cj]
                  by_cases cl : (j : Int) < I 4
                  · rw [if_pos cl, if_pos (by omega), hOa (3200 + j) (by omega)]
                  · rw [if_neg cl, if_neg (by omega)]
              by_cases c3 : r = 21
              · subst c3; exact Or.inl (by rw [k_pl, cC_a (by decide)]; rfl)
              by_cases c4 : r = 3200 + k
              · subst c4
                refine Or.inl ?_
                rw [k_it, cC_wt (by omega)]
                have f5 : (upF (upF (upF (upF (upF F 5 (I 4) ma) 6 (I 4) pl) 27 (I 4) pl) 7 (I 4) ht) 8 (I 4) mk) 5 (k : Int) = ma := by rw [← hk]; simp [upF, va_up, updZ]
                have f6 : (upF (upF (upF (upF (upF F 5 (I 4) ma) 6 (I 4) pl) 27 (I 4) pl) 7 (I 4) ht) 8 (I 4) mk) 6 (k : Int) = pl := by rw [← hk]; simp [upF, va_up, updZ]
                have f7 : (upF (upF (upF (upF (upF F 5 (I 4) ma) 6 (I 4) pl) 27 (I 4) pl) 7 (I 4) ht) 8 (I 4) mk) 7 (k : Int) = ht := by rw [← hk]; simp [upF, va_up, updZ]
                have f8 : (upF (upF (upF (upF (upF F 5 (I 4) ma) 6 (I 4) pl) 27 (I 4) pl) 7 (I 4) ht) 8 (I 4) mk) 8 (k : Int) = mk := by rw [← hk]; simp [upF, va_up, updZ]
                have f9 : (upF (upF (upF (upF (upF F 5 (I 4) ma) 6 (I 4) pl) 27 (I 4) pl) 7 (I 4) ht) 8 (I 4) mk) 9 (k : Int) = 0 := (show F 9 (k : Int) = 0 from hz9 _ (by omega))
                rw [f5, f6, f7, f8, f9]
              have h29 : r ≠ 29 := fun z => hrn (z ▸ hv9 r hr)
              rw [hOc r (by omega)]
              exact cCg_1 (F1 := (upF (upF (upF (upF (upF F 5 (I 4) ma) 6 (I 4) pl) 27 (I 4) pl) 7 (I 4) ht) 8 (I 4) mk)) k hk12 (by omega) (fun j n5 n6 n7 n8 n27 => by simp [upF, va_up, n5, n6, n7, n8, n27]) (fun j z nz => F1k_1 (by rw [hk]; exact nz)) (fun q h1 h2 h3 => by
                by_cases c21 : q = 21
                · subst c21; exact e_pl
                · exact hOa q (by omega)) c1 c2 c3 c4
            have hG := hG.cgE hv9 hc9e
            refine W.eq (g2 := F0 m 113 ls [.int (iI (I 4))]) (by rw [show I 4 + 1 - 1 = I 4 by omega]) ?_
            exact a_iret hCK hQ hr hlk hG hS (by omega) (by omega) dX0_weight_113 (Or.inl ⟨by omega, rfl, cap1, rfl, rfl, hcap1⟩)
          · refine r_iconst hx hb dX0_weight_65 ?_
            exact a_iret hCK hQ hr hlk hG hS (by omega) (by omega) dX0_weight_66 (Or.inr ⟨by omega, rfl, rfl, rfl, rfl⟩)
theorem dX0_tank_0 : decode cX0_tank 0 = .ok (.iload_n 1, 1) := by decide +kernel
theorem dX0_tank_1 : decode cX0_tank 1 = .ok (.i2l, 1) := by decide +kernel
theorem dX0_tank_2 : decode cX0_tank 2 = .ok (.lconst 1, 1) := by decide +kernel
theorem dX0_tank_3 : decode cX0_tank 3 = .ok (.ldc2_w 171, 3) := by decide +kernel
theorem dX0_tank_6 : decode cX0_tank 6 = .ok (.invokestatic 101, 3) := by decide +kernel
theorem dX0_tank_9 : decode cX0_tank 9 = .ok (.ifCond .eq 38, 3) := by decide +kernel
theorem dX0_tank_12 : decode cX0_tank 12 = .ok (.iload_n 2, 1) := by decide +kernel
theorem dX0_tank_13 : decode cX0_tank 13 = .ok (.i2l, 1) := by decide +kernel
theorem dX0_tank_14 : decode cX0_tank 14 = .ok (.lconst 0, 1) := by decide +kernel
theorem dX0_tank_15 : decode cX0_tank 15 = .ok (.ldc2_w 145, 3) := by decide +kernel
theorem dX0_tank_18 : decode cX0_tank 18 = .ok (.invokestatic 101, 3) := by decide +kernel
theorem dX0_tank_21 : decode cX0_tank 21 = .ok (.ifCond .eq 26, 3) := by decide +kernel
theorem dX0_tank_24 : decode cX0_tank 24 = .ok (.iload_n 3, 1) := by decide +kernel
theorem dX0_tank_25 : decode cX0_tank 25 = .ok (.i2l, 1) := by decide +kernel
theorem dX0_tank_26 : decode cX0_tank 26 = .ok (.lconst 1, 1) := by decide +kernel
theorem dX0_tank_27 : decode cX0_tank 27 = .ok (.ldc2_w 173, 3) := by decide +kernel
theorem dX0_tank_30 : decode cX0_tank 30 = .ok (.invokestatic 101, 3) := by decide +kernel
theorem dX0_tank_33 : decode cX0_tank 33 = .ok (.ifCond .eq 14, 3) := by decide +kernel
theorem dX0_tank_36 : decode cX0_tank 36 = .ok (.aload_n 0, 1) := by decide +kernel
theorem dX0_tank_37 : decode cX0_tank 37 = .ok (.getfield 41, 3) := by decide +kernel
theorem dX0_tank_40 : decode cX0_tank 40 = .ok (.invokevirtual 125, 3) := by decide +kernel
theorem dX0_tank_43 : decode cX0_tank 43 = .ok (.iconst 4, 1) := by decide +kernel
theorem dX0_tank_44 : decode cX0_tank 44 = .ok (.if_icmp .ne 5, 3) := by decide +kernel
theorem dX0_tank_47 : decode cX0_tank 47 = .ok (.iconst (-1), 1) := by decide +kernel
theorem dX0_tank_48 : decode cX0_tank 48 = .ok (.ireturn, 1) := by decide +kernel
theorem dX0_tank_49 : decode cX0_tank 49 = .ok (.aload_n 0, 1) := by decide +kernel
theorem dX0_tank_50 : decode cX0_tank 50 = .ok (.getfield 41, 3) := by decide +kernel
theorem dX0_tank_53 : decode cX0_tank 53 = .ok (.new 175, 3) := by decide +kernel
theorem dX0_tank_56 : decode cX0_tank 56 = .ok (.dup, 1) := by decide +kernel
theorem dX0_tank_57 : decode cX0_tank 57 = .ok (.iload_n 1, 1) := by decide +kernel
theorem dX0_tank_58 : decode cX0_tank 58 = .ok (.iload_n 2, 1) := by decide +kernel
theorem dX0_tank_59 : decode cX0_tank 59 = .ok (.iload_n 3, 1) := by decide +kernel
theorem dX0_tank_60 : decode cX0_tank 60 = .ok (.invokespecial 177, 3) := by decide +kernel
theorem dX0_tank_63 : decode cX0_tank 63 = .ok (.invokevirtual 135, 3) := by decide +kernel
theorem dX0_tank_66 : decode cX0_tank 66 = .ok (.istore 4, 2) := by decide +kernel
theorem dX0_tank_68 : decode cX0_tank 68 = .ok (.aload_n 0, 1) := by decide +kernel
theorem dX0_tank_69 : decode cX0_tank 69 = .ok (.getfield 41, 3) := by decide +kernel
theorem dX0_tank_72 : decode cX0_tank 72 = .ok (.invokevirtual 125, 3) := by decide +kernel
theorem dX0_tank_75 : decode cX0_tank 75 = .ok (.iconst 1, 1) := by decide +kernel
theorem dX0_tank_76 : decode cX0_tank 76 = .ok (.isub, 1) := by decide +kernel
theorem dX0_tank_77 : decode cX0_tank 77 = .ok (.ireturn, 1) := by decide +kernel
set_option maxHeartbeats 4000000 in
theorem ctank (l : Launch) (adK adV st : Nat → Nat) (D : va_G) (E : Nat → ClassId) (A : Nat → Prop) (ad nv : Nat → Nat) (I : Nat → Int) (F : Nat → Int → Int) (S : Nat → Nat → Int) (Y : Nat → Int → Int) (L : Nat → Nat) (wd ht hd : Int) (r_wd : R32 wd) (r_ht : R32 ht) (r_hd : R32 hd) (hn : cOK nv I L) (gh0 : gHull I F) (gl0 : gLoad I F) (gs0 : gSea I F) (hcap : 4 ≤ L 17 ∧ L 17 ≤ 20) (hz14 : ∀ z, I 10 ≤ z → F 14 z = 0) : AM l yX0_tank cX0_tank 5 (some .int) (amr 8 2 34) adK adV st D E A [.ref (ad 0), .int (iI wd), .int (iI ht), .int (iI hd)] (cV nv F S) ad (cC E ad I F S Y L) (AQi D E A (fun z ad1 V1 C1 => (((1 ≤ wd ∧ wd ≤ 9) ∧ (0 ≤ ht ∧ ht ≤ 40) ∧ (1 ≤ hd ∧ hd ≤ 300) ∧ I 10 ≠ 4) ∧ I 10 = z ∧ ∃ cap1, V1 = cV (va_up nv 2 (nv 2 + 1)) (upF (upF (upF F 11 (I 10) wd) 12 (I 10) ht) 13 (I 10) hd) (up2 S 13 0 (S 13 0 + 1)) ∧ C1 = cC E ad1 (va_up I 10 (I 10 + 1)) (upF (upF (upF F 11 (I 10) wd) 12 (I 10) ht) 13 (I 10) hd) (up2 S 13 0 (S 13 0 + 1)) Y (va_up L 17 cap1) ∧ (4 ≤ cap1 ∧ cap1 ≤ 20) ∧ I 10 + 1 ≤ (cap1 : Int)) ∨ (¬ ((1 ≤ wd ∧ wd ≤ 9) ∧ (0 ≤ ht ∧ ht ≤ 40) ∧ (1 ≤ hd ∧ hd ≤ 300) ∧ I 10 ≠ 4) ∧ -1 = z ∧ ad = ad1 ∧ V1 = cV nv F S ∧ C1 = cC E ad I F S Y L))) 2 34 := by
  refine a_start (by decide) rfl (Nat.le_of_ble_eq_true rfl) ?_
  intro p e R s m args below meth c ls Q hR hQ hCK hml hr hlk hnme hG hS hE hA hl
  have hx := hCK.1
  have hb := hCK.2.1
  have hown := hCK.2.2.1
  have hts := hCK.2.2.2.1
  have hK := hCK.2.2.2.2
  have hl : lv_has ls 5 [(0, .ref (ad 0)), (1, .int (iI wd)), (2, .int (iI ht)), (3, .int (iI hd))] := hl
  obtain ⟨⟨n0, n1, n2, n3⟩, ⟨l0, l1, l2, l3⟩, c0, c1, c2, c3⟩ := id hn
  have b1 := gh0.1
  have b4 := gl0.1
  have b10 := gl0.2.2.2.2.2.2.1
  have b18 := gs0.1
  have v_mn : cV nv F S 0 := Or.inl (by decide)
  have e_mn : ad 0 = ad 0 := rfl
  have k_mn : cC E ad I F S Y L 0 = .inr (0, [.ref (ad 1), .int (iI (I 48)), (if S 0 2 = 0 then .null else .ref (ad 30)), .ref (ad 2), .ref (ad 3), .ref (ad 11), .ref (ad 12), .ref (ad 13), .ref (ad 14), .ref (ad 4), .ref (ad 5), .int (iI (I 15)), .int (iI (I 22)), .int (iI (I 23)), .int (iI (I 24)), .int (iI (I 25)), .ref (ad 19), .ref (ad 20), .ref (ad 9), .ref (ad 6), .ref (ad 7), .ref (ad 10), .int (iI (I 41)), .int (iI (I 44)), .ref (ad 8), .int (iI (I 45))]) := cC_0
  have v_li : cV nv F S 13 := Or.inl (by decide)
  have e_li : ad 13 = ad 13 := rfl
  have k_li : cC E ad I F S Y L 13 = .inr (10, [.int (iI (S 13 0)), .ref (ad 17), .int (iI (I 10))]) := cC_l (by decide)
  have v_ar : cV nv F S 17 := Or.inl (by decide)
  have e_ar : ad 17 = ad 17 := rfl
  have k_ar : cC E ad I F S Y L 17 = .inl (E 5, (L 17), ar (fun j => if (j : Int) < I 10 then some (ad (3300 + j)) else none)) := cC_e (by decide)
  refine lv_iload_n hx hb dX0_tank_0 rfl (lv_at hl 1 rfl) ?_
  refine r_i2l hx hb dX0_tank_1 r_wd ?_
  refine r_lconst hx hb 1 dX0_tank_2 (by decide) ?_
  refine r_ldc2 hx hb 9 hown (hts _ q708) (by decide) dX0_tank_3 ?_
  refine s_calli (j_runS (n := 3) (rest := []) (as := [.long (iL wd), .long (iL 1), .long (iL 9)]) hx hb hml hown hts ((cin l wd 1 9 (by omega) (by decide) (by decide)).jm) (fun _ _ _ _ _ => trivial) (fun _ _ _ => trivial) q296 q297 q68 q298 (by decide +kernel) ⟨rfl, rfl⟩ hR ⟨Nat.le_of_ble_eq_true rfl, Nat.le_of_ble_eq_true rfl⟩ ⟨Nat.zero_le _, Nat.zero_le _⟩ rfl hl.1 rfl (Nat.le_of_ble_eq_true rfl) dX0_tank_6) ?_
  refine r_ifeqB (tgt := 47) hx hb dX0_tank_9 (by decide) (fun c1 => ?_) (fun c1 => ?_)
  · refine r_iconst hx hb dX0_tank_47 ?_
    exact a_iret hCK hQ hr hlk hG hS (by omega) (by omega) dX0_tank_48 (Or.inr ⟨by omega, rfl, rfl, rfl, rfl⟩)
  · refine lv_iload_n hx hb dX0_tank_12 rfl (lv_at hl 2 rfl) ?_
    refine r_i2l hx hb dX0_tank_13 r_ht ?_
    refine r_lconst hx hb 0 dX0_tank_14 (by decide) ?_
    refine r_ldc2 hx hb 40 hown (hts _ q665) (by decide) dX0_tank_15 ?_
    refine s_calli (j_runS (n := 3) (rest := []) (as := [.long (iL ht), .long (iL 0), .long (iL 40)]) hx hb hml hown hts ((cin l ht 0 40 (by omega) (by decide) (by decide)).jm) (fun _ _ _ _ _ => trivial) (fun _ _ _ => trivial) q296 q297 q68 q298 (by decide +kernel) ⟨rfl, rfl⟩ hR ⟨Nat.le_of_ble_eq_true rfl, Nat.le_of_ble_eq_true rfl⟩ ⟨Nat.zero_le _, Nat.zero_le _⟩ rfl hl.1 rfl (Nat.le_of_ble_eq_true rfl) dX0_tank_18) ?_
    refine r_ifeqB (tgt := 47) hx hb dX0_tank_21 (by decide) (fun c2 => ?_) (fun c2 => ?_)
    · refine r_iconst hx hb dX0_tank_47 ?_
      exact a_iret hCK hQ hr hlk hG hS (by omega) (by omega) dX0_tank_48 (Or.inr ⟨by omega, rfl, rfl, rfl, rfl⟩)
    · refine lv_iload_n hx hb dX0_tank_24 rfl (lv_at hl 3 rfl) ?_
      refine r_i2l hx hb dX0_tank_25 r_hd ?_
      refine r_lconst hx hb 1 dX0_tank_26 (by decide) ?_
      refine r_ldc2 hx hb 300 hown (hts _ q709) (by decide) dX0_tank_27 ?_
      refine s_calli (j_runS (n := 3) (rest := []) (as := [.long (iL hd), .long (iL 1), .long (iL 300)]) hx hb hml hown hts ((cin l hd 1 300 (by omega) (by decide) (by decide)).jm) (fun _ _ _ _ _ => trivial) (fun _ _ _ => trivial) q296 q297 q68 q298 (by decide +kernel) ⟨rfl, rfl⟩ hR ⟨Nat.le_of_ble_eq_true rfl, Nat.le_of_ble_eq_true rfl⟩ ⟨Nat.zero_le _, Nat.zero_le _⟩ rfl hl.1 rfl (Nat.le_of_ble_eq_true rfl) dX0_tank_30) ?_
      refine r_ifeqB (tgt := 47) hx hb dX0_tank_33 (by decide) (fun c3 => ?_) (fun c3 => ?_)
      · refine r_iconst hx hb dX0_tank_47 ?_
        exact a_iret hCK hQ hr hlk hG hS (by omega) (by omega) dX0_tank_48 (Or.inr ⟨by omega, rfl, rfl, rfl, rfl⟩)
      · refine lv_aload_n hx hb dX0_tank_36 rfl (lv_at hl 0 rfl) ?_
        refine a_get hCK hG 0 e_mn v_mn k_mn (ci := 0) rfl in_X0 7 (by decide) q205 rfl rfl dX0_tank_37 ?_
        refine W.eq (g2 := F0 m 40 ls [.ref (ad 13)]) rfl ?_
        refine s_calli (j_runV (n := 0) (C := RJ2) (b := ad 13) (rest := []) (as := []) hx hb hml hown hts ((by have h := met_lsize l adK adV st D E A (cV nv F S) ad (cC E ad I F S Y L) 13 17 (S 13 0) (I 10) v_li (by rw [e_ar]; exact k_li); rw [e_li] at h; exact h)) GB.blind (GB.at hK hG hE hS) (by have h := g_rec (r := 13) (ci := 10) hK hG v_li rfl k_li; rw [e_li] at h; exact h) q641 q614 q615 q71 q616 (by decide +kernel) ⟨rfl, rfl⟩ hR ⟨Nat.le_of_ble_eq_true rfl, Nat.le_of_ble_eq_true rfl⟩ ⟨Nat.zero_le _, Nat.zero_le _⟩ rfl hl.1 rfl (Nat.le_of_ble_eq_true rfl) dX0_tank_40) ?_
        refine r_iconst hx hb dX0_tank_43 ?_
        refine r_icmp_ne (tgt := 49) hx hb dX0_tank_44 (by decide) (by omega) (by decide) (fun c4 => ?_) (fun c4 => ?_)
        · obtain ⟨k, hk⟩ : ∃ k : Nat, I 10 = (k : Int) := ⟨(I 10).toNat, by omega⟩
          have hkn : nv 2 = k := by omega
          have hk12 : k < 4 := by omega
          have hnk : ¬ cV nv F S (3300 + k) := by unfold cV; omega
          have hn29 : ¬ cV nv F S 29 := by unfold cV; omega
          have hel : elOK (cV nv F S) ad (cC E ad I F S Y L) 13 17 (fun j : Nat => if (j : Int) < I 10 then some (ad (3300 + j)) else none) := by
            intro i y hy
            by_cases ci : (i : Int) < I 10
            · have hy : (if (i : Int) < I 10 then some (ad (3300 + i)) else none) = some y := hy
              rw [if_pos ci] at hy
              cases hy
              exact ⟨3300 + i, rfl, by unfold cV; omega, by omega, by omega, 5, _, _, cC_tk (by omega), rfl, q1550⟩
            · have hy : (if (i : Int) < I 10 then some (ad (3300 + i)) else none) = some y := hy
              rw [if_neg ci] at hy
              cases hy
          have hOa : ∀ q, (q ≠ 3300 + k) → ad q = ad q := fun _ _ => rfl
          have hOc : ∀ q, (q ≠ 3300 + k) → cC E ad I F S Y L q = cC E ad I F S Y L q := fun _ _ => rfl
          refine lv_aload_n hx hb dX0_tank_49 rfl (lv_at hl 0 rfl) ?_
          refine a_get hCK hG 0 e_mn v_mn k_mn (ci := 0) rfl in_X0 7 (by decide) q205 rfl rfl dX0_tank_50 ?_
          refine W.eq (g2 := F0 m 53 ls [.ref (ad 13)]) rfl ?_
          refine a_new (ci := 5) (fs := [.int (iI 0), .int (iI 0), .int (iI 0), .int (iI 0)]) tyX5 hCK hG hS hA (3300 + k) in_X5 tyX5_ok q710 q711 q82 rfl (by decide) (by rw [hR]; show _ ≤ _; (try unfold amr); (try simp only []); omega) (by rw [hR]; show _ ≤ _; (try unfold amr); (try simp only []); omega) dX0_tank_53 (fun x5 ad6 C7 H e_it k_it oo10 hG hS oh11 => ?_)
          obtain ⟨V12, hV12⟩ : ∃ X : Nat → Prop, X = fun q => (cV nv F S) q ∨ q = 3300 + k := ⟨_, rfl⟩
          rw [← hV12] at hG
          have v_mn : V12 0 := by rw [hV12]; exact Or.inl v_mn
          have e_mn : ad6 0 = ad 0 := (oo10 0 (by omega)).1.trans e_mn
          have k_mn : C7 0 = .inr (0, [.ref (ad 1), .int (iI (I 48)), (if S 0 2 = 0 then .null else .ref (ad 30)), .ref (ad 2), .ref (ad 3), .ref (ad 11), .ref (ad 12), .ref (ad 13), .ref (ad 14), .ref (ad 4), .ref (ad 5), .int (iI (I 15)), .int (iI (I 22)), .int (iI (I 23)), .int (iI (I 24)), .int (iI (I 25)), .ref (ad 19), .ref (ad 20), .ref (ad 9), .ref (ad 6), .ref (ad 7), .ref (ad 10), .int (iI (I 41)), .int (iI (I 44)), .ref (ad 8), .int (iI (I 45))]) := (oo10 0 (by omega)).2.trans k_mn
          have v_li : V12 13 := by rw [hV12]; exact Or.inl v_li
          have e_li : ad6 13 = ad 13 := (oo10 13 (by omega)).1.trans e_li
          have k_li : C7 13 = .inr (10, [.int (iI (S 13 0)), .ref (ad 17), .int (iI (I 10))]) := (oo10 13 (by omega)).2.trans k_li
          have v_ar : V12 17 := by rw [hV12]; exact Or.inl v_ar
          have e_ar : ad6 17 = ad 17 := (oo10 17 (by omega)).1.trans e_ar
          have k_ar : C7 17 = .inl (E 5, (L 17), ar (fun j => if (j : Int) < I 10 then some (ad (3300 + j)) else none)) := (oo10 17 (by omega)).2.trans k_ar
          have v_it : V12 (3300 + k) := by rw [hV12]; exact Or.inr rfl
          have hOa : ∀ q, (q ≠ 3300 + k) → ad6 q = ad q := fun q hq => (oo10 q (by omega)).1.trans (hOa q hq)
          have hOc : ∀ q, (q ≠ 3300 + k) → C7 q = (cC E ad I F S Y L) q := fun q hq => (oo10 q (by omega)).2.trans (hOc q hq)
          refine lv_dup hx hb dX0_tank_56 rfl ?_
          refine lv_iload_n hx hb dX0_tank_57 rfl (lv_at hl 1 rfl) ?_
          refine lv_iload_n hx hb dX0_tank_58 rfl (lv_at hl 2 rfl) ?_
          refine lv_iload_n hx hb dX0_tank_59 rfl (lv_at hl 3 rfl) ?_
          refine a_callv (a_runI (n := 3) (b := x5) (rest := [.ref x5, .ref (ad 13)]) (as := [.int (iI wd), .int (iI ht), .int (iI hd)]) hCK hE hA hml (met_xi5 l adK adV st D E A V12 ad6 C7 (3300 + k) x5 wd ht hd v_it e_it k_it) q712 q713 q82 q714 rfl (by decide +kernel) ⟨rfl, rfl⟩ hR ⟨Nat.le_of_ble_eq_true rfl, Nat.le_of_ble_eq_true rfl⟩ ⟨(by rw [hR]; show _ ≤ _; (try unfold amr); (try simp only []); omega), (by rw [hR]; show _ ≤ _; (try unfold amr); (try simp only []); omega)⟩ hG hS rfl hl.1 rfl (Nat.le_of_ble_eq_true rfl) dX0_tank_60) hS (fun ad14 V15 C16 H locs hp17 hG hS => ?_)
          obtain ⟨rfl, rfl, kk19, oo18⟩ := hp17
          have k_it : C16 (3300 + k) = .inr (5, [.int (iI wd), .int (iI ht), .int (iI hd), .int (iI 0)]) := kk19
          have k_mn : C16 0 = .inr (0, [.ref (ad 1), .int (iI (I 48)), (if S 0 2 = 0 then .null else .ref (ad 30)), .ref (ad 2), .ref (ad 3), .ref (ad 11), .ref (ad 12), .ref (ad 13), .ref (ad 14), .ref (ad 4), .ref (ad 5), .int (iI (I 15)), .int (iI (I 22)), .int (iI (I 23)), .int (iI (I 24)), .int (iI (I 25)), .ref (ad 19), .ref (ad 20), .ref (ad 9), .ref (ad 6), .ref (ad 7), .ref (ad 10), .int (iI (I 41)), .int (iI (I 44)), .ref (ad 8), .int (iI (I 45))]) := (oo18 0 (by omega)).trans k_mn
          have k_li : C16 13 = .inr (10, [.int (iI (S 13 0)), .ref (ad 17), .int (iI (I 10))]) := (oo18 13 (by omega)).trans k_li
          have k_ar : C16 17 = .inl (E 5, (L 17), ar (fun j => if (j : Int) < I 10 then some (ad (3300 + j)) else none)) := (oo18 17 (by omega)).trans k_ar
          have hOa : ∀ q, (q ≠ 3300 + k) → ad6 q = ad q := hOa
          have hOc : ∀ q, (q ≠ 3300 + k) → C16 q = (cC E ad I F S Y L) q := fun q hq => (oo18 q (by omega)).trans (hOc q hq)
          have hel : elOK V12 ad6 C16 13 17 (fun j : Nat => if (j : Int) < I 10 then some (ad (3300 + j)) else none) := by
            intro i y hy
            obtain ⟨q, h1, h2, h3, h4, ci, fs, r, h5, h6, h7⟩ := hel i y hy
            have hc : q ≠ 3300 + k := (fun z => hnk (z ▸ h2))
            exact ⟨q, h1.trans (hOa q hc).symm, by rw [hV12]; exact Or.inl h2, h3, h4, ci, fs, r, (hOc q hc).trans h5, h6, h7⟩
          have hrn : ¬ V12 29 := by
            rw [hV12]
            rintro (h | h)
            · exact hn29 h
            · omega
          refine a_calli (a_runV (n := 1) (C0 := RJ2) (b := ad 13) (rest := []) (as := [.ref x5]) hCK hE hA hml (met_add l adK adV st D E A V12 ad6 C16 13 17 (ad 13) (ad 17) (L 17) (S 13 0) (I 10) (fun j : Nat => if (j : Int) < I 10 then some (ad (3300 + j)) else none) (by decide) v_li e_li k_li v_ar e_ar k_ar hel (by omega) 29 hrn (3300 + k) x5 v_it e_it ⟨5, _, _, k_it, rfl, q1550⟩ (by omega) (by omega) (fun j hj => if_neg (by omega)) 1 30 (by omega)) (by have h := g_rec (r := 13) (ci := 10) hK hG v_li rfl k_li; rw [e_li] at h; exact h) q657 q533 q534 q71 q535 (by decide +kernel) ⟨rfl, rfl⟩ hR ⟨Nat.le_of_ble_eq_true rfl, Nat.le_of_ble_eq_true rfl⟩ ⟨(by rw [hR]; show _ ≤ _; (try unfold amr); (try simp only []); omega), (by rw [hR]; show _ ≤ _; (try unfold amr); (try simp only []); omega)⟩ hG hS rfl hl.1 rfl (Nat.le_of_ble_eq_true rfl) dX0_tank_63) hS (fun z20 ad21 V22 C23 H locs hp24 hG hS => ?_)
          obtain ⟨rfl, rfl, xq9, cap1, hc9, e_ar, k_ar, k_li, o1, o2⟩ := hp24
          have e_mn : ad21 0 = ad 0 := (o1 0 (by omega) (by omega)).trans e_mn
          have k_mn : C23 0 = .inr (0, [.ref (ad 1), .int (iI (I 48)), (if S 0 2 = 0 then .null else .ref (ad 30)), .ref (ad 2), .ref (ad 3), .ref (ad 11), .ref (ad 12), .ref (ad 13), .ref (ad 14), .ref (ad 4), .ref (ad 5), .int (iI (I 15)), .int (iI (I 22)), .int (iI (I 23)), .int (iI (I 24)), .int (iI (I 25)), .ref (ad 19), .ref (ad 20), .ref (ad 9), .ref (ad 6), .ref (ad 7), .ref (ad 10), .int (iI (I 41)), .int (iI (I 44)), .ref (ad 8), .int (iI (I 45))]) := (o2 0 (by omega) (by omega) (by omega)).trans k_mn
          have e_li : ad21 13 = ad 13 := (o1 13 (by omega) (by omega)).trans e_li
          have e_it : ad21 (3300 + k) = x5 := (o1 (3300 + k) (by omega) (by omega)).trans e_it
          have k_it : C23 (3300 + k) = .inr (5, [.int (iI wd), .int (iI ht), .int (iI hd), .int (iI 0)]) := (o2 (3300 + k) (by omega) (by omega) (by omega)).trans k_it
          have hOa : ∀ q, (q ≠ 3300 + k ∧ q ≠ 29 ∧ q ≠ 17) → ad21 q = ad q := fun q hq => (o1 q (by omega) (by omega)).trans (hOa q (by omega))
          have hOc : ∀ q, (q ≠ 3300 + k ∧ q ≠ 29 ∧ q ≠ 17 ∧ q ≠ 13) → C23 q = cC E ad I F S Y L q := fun q hq => (o2 q (by omega) (by omega) (by omega)).trans (hOc q (by omega))
          refine W.eq (g2 := F0 m 66 ls [.int (iI 1)]) rfl ?_
          refine lv_istore (lv' := [(4, .int (iI 1)), (0, .ref (ad 0)), (1, .int (iI wd)), (2, .int (iI ht)), (3, .int (iI hd))]) hx hb dX0_tank_66 hl (by decide) rfl (fun ls hl => ?_)
          refine lv_aload_n hx hb dX0_tank_68 rfl (lv_at hl 1 rfl) ?_
          refine a_get hCK hG 0 e_mn v_mn k_mn (ci := 0) rfl in_X0 7 (by decide) q205 rfl rfl dX0_tank_69 ?_
          refine W.eq (g2 := F0 m 72 ls [.ref (ad 13)]) rfl ?_
          refine s_calli (j_runV (n := 0) (C := RJ2) (b := ad 13) (rest := []) (as := []) hx hb hml hown hts ((by have h := met_lsize l adK adV st D E A V12 ad21 C23 13 17 (S 13 0 + 1) (I 10 + 1) v_li (by rw [e_ar]; exact k_li); rw [e_li] at h; exact h)) GB.blind (GB.at hK hG hE hS) (by have h := g_rec (r := 13) (ci := 10) hK hG v_li rfl k_li; rw [e_li] at h; exact h) q641 q614 q615 q71 q616 (by decide +kernel) ⟨rfl, rfl⟩ hR ⟨Nat.le_of_ble_eq_true rfl, Nat.le_of_ble_eq_true rfl⟩ ⟨(by rw [hR]; show _ ≤ _; (try unfold amr); (try simp only []); omega), (by rw [hR]; show _ ≤ _; (try unfold amr); (try simp only []); omega)⟩ rfl hl.1 rfl (Nat.le_of_ble_eq_true rfl) dX0_tank_72) ?_
          refine r_iconst hx hb dX0_tank_75 ?_
          refine r_isub hx hb dX0_tank_76 ?_
          have hcap1 : (4 ≤ cap1 ∧ cap1 ≤ 20) ∧ I 10 + 1 ≤ (cap1 : Int) := by omega
          have hv9 : ∀ r, cV (va_up nv 2 (nv 2 + 1)) (upF (upF (upF F 11 (I 10) wd) 12 (I 10) ht) 13 (I 10) hd) (up2 S 13 0 (S 13 0 + 1)) r → V12 r := by
            intro r hr
            have h := cVu_2 (F := F) (S := S) (k := k) hkn rfl rfl rfl (by rw [← hkn]; exact hr)
            rw [hV12]
            exact h
          have hc9e : ∀ r, cV (va_up nv 2 (nv 2 + 1)) (upF (upF (upF F 11 (I 10) wd) 12 (I 10) ht) 13 (I 10) hd) (up2 S 13 0 (S 13 0 + 1)) r → cEq (C23 r) (cC E ad21 (va_up I 10 (I 10 + 1)) (upF (upF (upF F 11 (I 10) wd) 12 (I 10) ht) 13 (I 10) hd) (up2 S 13 0 (S 13 0 + 1)) Y (va_up L 17 cap1) r) := by
            intro r hr
            by_cases c1 : r = 13
            · subst c1; exact Or.inl (by rw [k_li, cC_l (by decide), ← e_ar]; rfl)
            by_cases c2 : r = 17
            · subst c2
              rw [k_ar, cC_e (by decide)]
              have e1 : va_up L 17 cap1 17 = cap1 := va_up_s _ _ _
              rw [e1]
              refine cEq_r (fun j hj => ?_)
              show va_up (fun j : Nat => if (j : Int) < I 10 then some (ad (3300 + j)) else none) (I 10).toNat (some x5) j = if (j : Int) < I 10 + 1 then some (ad21 (3300 + j)) else none
              by_cases cj : j = (I 10).toNat
              · rw [cj, va_up_s, if_pos (by omega), show 3300 + (I 10).toNat = 3300 + k by omega, e_it]
              · rw [va_up_ne _ _ cj]
                by_cases cl : (j : Int) < I 10
                · rw [if_pos cl, if_pos (by omega), hOa (3300 + j) (by omega)]
                · rw [if_neg cl, if_neg (by omega)]
            by_cases c4 : r = 3300 + k
            · subst c4
              refine Or.inl ?_
              rw [k_it, cC_tk (by omega)]
              have f11 : (upF (upF (upF F 11 (I 10) wd) 12 (I 10) ht) 13 (I 10) hd) 11 (k : Int) = wd := by rw [← hk]; simp [upF, va_up, updZ]
              have f12 : (upF (upF (upF F 11 (I 10) wd) 12 (I 10) ht) 13 (I 10) hd) 12 (k : Int) = ht := by rw [← hk]; simp [upF, va_up, updZ]
              have f13 : (upF (upF (upF F 11 (I 10) wd) 12 (I 10) ht) 13 (I 10) hd) 13 (k : Int) = hd := by rw [← hk]; simp [upF, va_up, updZ]
              have f14 : (upF (upF (upF F 11 (I 10) wd) 12 (I 10) ht) 13 (I 10) hd) 14 (k : Int) = 0 := (show F 14 (k : Int) = 0 from hz14 _ (by omega))
              rw [f11, f12, f13, f14]
            have h29 : r ≠ 29 := fun z => hrn (z ▸ hv9 r hr)
            rw [hOc r (by omega)]
            exact cCg_2 (F1 := (upF (upF (upF F 11 (I 10) wd) 12 (I 10) ht) 13 (I 10) hd)) k hk12 (by omega) (fun j n11 n12 n13 => by simp [upF, va_up, n11, n12, n13]) (fun j z nz => F1k_2 (by rw [hk]; exact nz)) (fun q h1 h2 h3 => hOa q (by omega)) c1 c2 c4
          have hG := hG.cgE hv9 hc9e
          refine W.eq (g2 := F0 m 77 ls [.int (iI (I 10))]) (by rw [show I 10 + 1 - 1 = I 10 by omega]) ?_
          exact a_iret hCK hQ hr hlk hG hS (by omega) (by omega) dX0_tank_77 (Or.inl ⟨by omega, rfl, cap1, rfl, rfl, hcap1⟩)
        · refine r_iconst hx hb dX0_tank_47 ?_
          exact a_iret hCK hQ hr hlk hG hS (by omega) (by omega) dX0_tank_48 (Or.inr ⟨by omega, rfl, rfl, rfl, rfl⟩)
theorem dX0_wave_0 : decode cX0_wave 0 = .ok (.iload_n 1, 1) := by decide +kernel
theorem dX0_wave_1 : decode cX0_wave 1 = .ok (.i2l, 1) := by decide +kernel
theorem dX0_wave_2 : decode cX0_wave 2 = .ok (.lconst 1, 1) := by decide +kernel
theorem dX0_wave_3 : decode cX0_wave 3 = .ok (.ldc2_w 240, 3) := by decide +kernel
theorem dX0_wave_6 : decode cX0_wave 6 = .ok (.invokestatic 101, 3) := by decide +kernel
theorem dX0_wave_9 : decode cX0_wave 9 = .ok (.ifCond .eq 41, 3) := by decide +kernel
theorem dX0_wave_12 : decode cX0_wave 12 = .ok (.iload_n 2, 1) := by decide +kernel
theorem dX0_wave_13 : decode cX0_wave 13 = .ok (.i2l, 1) := by decide +kernel
theorem dX0_wave_14 : decode cX0_wave 14 = .ok (.ldc2_w 242, 3) := by decide +kernel
theorem dX0_wave_17 : decode cX0_wave 17 = .ok (.ldc2_w 244, 3) := by decide +kernel
theorem dX0_wave_20 : decode cX0_wave 20 = .ok (.invokestatic 101, 3) := by decide +kernel
theorem dX0_wave_23 : decode cX0_wave 23 = .ok (.ifCond .eq 27, 3) := by decide +kernel
theorem dX0_wave_26 : decode cX0_wave 26 = .ok (.iload_n 3, 1) := by decide +kernel
theorem dX0_wave_27 : decode cX0_wave 27 = .ok (.i2l, 1) := by decide +kernel
theorem dX0_wave_28 : decode cX0_wave 28 = .ok (.lconst 0, 1) := by decide +kernel
theorem dX0_wave_29 : decode cX0_wave 29 = .ok (.ldc2_w 246, 3) := by decide +kernel
theorem dX0_wave_32 : decode cX0_wave 32 = .ok (.invokestatic 101, 3) := by decide +kernel
theorem dX0_wave_35 : decode cX0_wave 35 = .ok (.ifCond .eq 15, 3) := by decide +kernel
theorem dX0_wave_38 : decode cX0_wave 38 = .ok (.aload_n 0, 1) := by decide +kernel
theorem dX0_wave_39 : decode cX0_wave 39 = .ok (.getfield 44, 3) := by decide +kernel
theorem dX0_wave_42 : decode cX0_wave 42 = .ok (.invokevirtual 125, 3) := by decide +kernel
theorem dX0_wave_45 : decode cX0_wave 45 = .ok (.bipush 8, 2) := by decide +kernel
theorem dX0_wave_47 : decode cX0_wave 47 = .ok (.if_icmp .ne 5, 3) := by decide +kernel
theorem dX0_wave_50 : decode cX0_wave 50 = .ok (.iconst (-1), 1) := by decide +kernel
theorem dX0_wave_51 : decode cX0_wave 51 = .ok (.ireturn, 1) := by decide +kernel
theorem dX0_wave_52 : decode cX0_wave 52 = .ok (.aload_n 0, 1) := by decide +kernel
theorem dX0_wave_53 : decode cX0_wave 53 = .ok (.getfield 44, 3) := by decide +kernel
theorem dX0_wave_56 : decode cX0_wave 56 = .ok (.new 248, 3) := by decide +kernel
theorem dX0_wave_59 : decode cX0_wave 59 = .ok (.dup, 1) := by decide +kernel
theorem dX0_wave_60 : decode cX0_wave 60 = .ok (.iload_n 1, 1) := by decide +kernel
theorem dX0_wave_61 : decode cX0_wave 61 = .ok (.iload_n 2, 1) := by decide +kernel
theorem dX0_wave_62 : decode cX0_wave 62 = .ok (.iload_n 3, 1) := by decide +kernel
theorem dX0_wave_63 : decode cX0_wave 63 = .ok (.invokespecial 250, 3) := by decide +kernel
theorem dX0_wave_66 : decode cX0_wave 66 = .ok (.invokevirtual 135, 3) := by decide +kernel
theorem dX0_wave_69 : decode cX0_wave 69 = .ok (.istore 4, 2) := by decide +kernel
theorem dX0_wave_71 : decode cX0_wave 71 = .ok (.aload_n 0, 1) := by decide +kernel
theorem dX0_wave_72 : decode cX0_wave 72 = .ok (.getfield 44, 3) := by decide +kernel
theorem dX0_wave_75 : decode cX0_wave 75 = .ok (.invokevirtual 125, 3) := by decide +kernel
theorem dX0_wave_78 : decode cX0_wave 78 = .ok (.iconst 1, 1) := by decide +kernel
theorem dX0_wave_79 : decode cX0_wave 79 = .ok (.isub, 1) := by decide +kernel
theorem dX0_wave_80 : decode cX0_wave 80 = .ok (.ireturn, 1) := by decide +kernel
set_option maxHeartbeats 4000000 in
theorem cwave (l : Launch) (adK adV st : Nat → Nat) (D : va_G) (E : Nat → ClassId) (A : Nat → Prop) (ad nv : Nat → Nat) (I : Nat → Int) (F : Nat → Int → Int) (S : Nat → Nat → Int) (Y : Nat → Int → Int) (L : Nat → Nat) (ht pr ph : Int) (r_ht : R32 ht) (r_pr : R32 pr) (r_ph : R32 ph) (hn : cOK nv I L) (gh0 : gHull I F) (gl0 : gLoad I F) (gs0 : gSea I F) (hcap : 4 ≤ L 18 ∧ L 18 ≤ 20)  : AM l yX0_wave cX0_wave 5 (some .int) (amr 8 2 33) adK adV st D E A [.ref (ad 0), .int (iI ht), .int (iI pr), .int (iI ph)] (cV nv F S) ad (cC E ad I F S Y L) (AQi D E A (fun z ad1 V1 C1 => (((1 ≤ ht ∧ ht ≤ 60) ∧ (4 ≤ pr ∧ pr ≤ 64) ∧ (0 ≤ ph ∧ ph ≤ 15) ∧ I 18 ≠ 8) ∧ I 18 = z ∧ ∃ cap1, V1 = cV (va_up nv 3 (nv 3 + 1)) (upF (upF (upF F 19 (I 18) ht) 20 (I 18) pr) 21 (I 18) ph) (up2 S 14 0 (S 14 0 + 1)) ∧ C1 = cC E ad1 (va_up I 18 (I 18 + 1)) (upF (upF (upF F 19 (I 18) ht) 20 (I 18) pr) 21 (I 18) ph) (up2 S 14 0 (S 14 0 + 1)) Y (va_up L 18 cap1) ∧ (4 ≤ cap1 ∧ cap1 ≤ 20) ∧ I 18 + 1 ≤ (cap1 : Int)) ∨ (¬ ((1 ≤ ht ∧ ht ≤ 60) ∧ (4 ≤ pr ∧ pr ≤ 64) ∧ (0 ≤ ph ∧ ph ≤ 15) ∧ I 18 ≠ 8) ∧ -1 = z ∧ ad = ad1 ∧ V1 = cV nv F S ∧ C1 = cC E ad I F S Y L))) 2 33 := by
  refine a_start (by decide) rfl (Nat.le_of_ble_eq_true rfl) ?_
  intro p e R s m args below meth c ls Q hR hQ hCK hml hr hlk hnme hG hS hE hA hl
  have hx := hCK.1
  have hb := hCK.2.1
  have hown := hCK.2.2.1
  have hts := hCK.2.2.2.1
  have hK := hCK.2.2.2.2
  have hl : lv_has ls 5 [(0, .ref (ad 0)), (1, .int (iI ht)), (2, .int (iI pr)), (3, .int (iI ph))] := hl
  obtain ⟨⟨n0, n1, n2, n3⟩, ⟨l0, l1, l2, l3⟩, c0, c1, c2, c3⟩ := id hn
  have b1 := gh0.1
  have b4 := gl0.1
  have b10 := gl0.2.2.2.2.2.2.1
  have b18 := gs0.1
  have v_mn : cV nv F S 0 := Or.inl (by decide)
  have e_mn : ad 0 = ad 0 := rfl
  have k_mn : cC E ad I F S Y L 0 = .inr (0, [.ref (ad 1), .int (iI (I 48)), (if S 0 2 = 0 then .null else .ref (ad 30)), .ref (ad 2), .ref (ad 3), .ref (ad 11), .ref (ad 12), .ref (ad 13), .ref (ad 14), .ref (ad 4), .ref (ad 5), .int (iI (I 15)), .int (iI (I 22)), .int (iI (I 23)), .int (iI (I 24)), .int (iI (I 25)), .ref (ad 19), .ref (ad 20), .ref (ad 9), .ref (ad 6), .ref (ad 7), .ref (ad 10), .int (iI (I 41)), .int (iI (I 44)), .ref (ad 8), .int (iI (I 45))]) := cC_0
  have v_li : cV nv F S 14 := Or.inl (by decide)
  have e_li : ad 14 = ad 14 := rfl
  have k_li : cC E ad I F S Y L 14 = .inr (10, [.int (iI (S 14 0)), .ref (ad 18), .int (iI (I 18))]) := cC_l (by decide)
  have v_ar : cV nv F S 18 := Or.inl (by decide)
  have e_ar : ad 18 = ad 18 := rfl
  have k_ar : cC E ad I F S Y L 18 = .inl (E 5, (L 18), ar (fun j => if (j : Int) < I 18 then some (ad (3400 + j)) else none)) := cC_e (by decide)
  refine lv_iload_n hx hb dX0_wave_0 rfl (lv_at hl 1 rfl) ?_
  refine r_i2l hx hb dX0_wave_1 r_ht ?_
  refine r_lconst hx hb 1 dX0_wave_2 (by decide) ?_
  refine r_ldc2 hx hb 60 hown (hts _ q797) (by decide) dX0_wave_3 ?_
  refine s_calli (j_runS (n := 3) (rest := []) (as := [.long (iL ht), .long (iL 1), .long (iL 60)]) hx hb hml hown hts ((cin l ht 1 60 (by omega) (by decide) (by decide)).jm) (fun _ _ _ _ _ => trivial) (fun _ _ _ => trivial) q296 q297 q68 q298 (by decide +kernel) ⟨rfl, rfl⟩ hR ⟨Nat.le_of_ble_eq_true rfl, Nat.le_of_ble_eq_true rfl⟩ ⟨Nat.zero_le _, Nat.zero_le _⟩ rfl hl.1 rfl (Nat.le_of_ble_eq_true rfl) dX0_wave_6) ?_
  refine r_ifeqB (tgt := 50) hx hb dX0_wave_9 (by decide) (fun c1 => ?_) (fun c1 => ?_)
  · refine r_iconst hx hb dX0_wave_50 ?_
    exact a_iret hCK hQ hr hlk hG hS (by omega) (by omega) dX0_wave_51 (Or.inr ⟨by omega, rfl, rfl, rfl, rfl⟩)
  · refine lv_iload_n hx hb dX0_wave_12 rfl (lv_at hl 2 rfl) ?_
    refine r_i2l hx hb dX0_wave_13 r_pr ?_
    refine r_ldc2 hx hb 4 hown (hts _ q798) (by decide) dX0_wave_14 ?_
    refine r_ldc2 hx hb 64 hown (hts _ q799) (by decide) dX0_wave_17 ?_
    refine s_calli (j_runS (n := 3) (rest := []) (as := [.long (iL pr), .long (iL 4), .long (iL 64)]) hx hb hml hown hts ((cin l pr 4 64 (by omega) (by decide) (by decide)).jm) (fun _ _ _ _ _ => trivial) (fun _ _ _ => trivial) q296 q297 q68 q298 (by decide +kernel) ⟨rfl, rfl⟩ hR ⟨Nat.le_of_ble_eq_true rfl, Nat.le_of_ble_eq_true rfl⟩ ⟨Nat.zero_le _, Nat.zero_le _⟩ rfl hl.1 rfl (Nat.le_of_ble_eq_true rfl) dX0_wave_20) ?_
    refine r_ifeqB (tgt := 50) hx hb dX0_wave_23 (by decide) (fun c2 => ?_) (fun c2 => ?_)
    · refine r_iconst hx hb dX0_wave_50 ?_
      exact a_iret hCK hQ hr hlk hG hS (by omega) (by omega) dX0_wave_51 (Or.inr ⟨by omega, rfl, rfl, rfl, rfl⟩)
    · refine lv_iload_n hx hb dX0_wave_26 rfl (lv_at hl 3 rfl) ?_
      refine r_i2l hx hb dX0_wave_27 r_ph ?_
      refine r_lconst hx hb 0 dX0_wave_28 (by decide) ?_
      refine r_ldc2 hx hb 15 hown (hts _ q800) (by decide) dX0_wave_29 ?_
      refine s_calli (j_runS (n := 3) (rest := []) (as := [.long (iL ph), .long (iL 0), .long (iL 15)]) hx hb hml hown hts ((cin l ph 0 15 (by omega) (by decide) (by decide)).jm) (fun _ _ _ _ _ => trivial) (fun _ _ _ => trivial) q296 q297 q68 q298 (by decide +kernel) ⟨rfl, rfl⟩ hR ⟨Nat.le_of_ble_eq_true rfl, Nat.le_of_ble_eq_true rfl⟩ ⟨Nat.zero_le _, Nat.zero_le _⟩ rfl hl.1 rfl (Nat.le_of_ble_eq_true rfl) dX0_wave_32) ?_
      refine r_ifeqB (tgt := 50) hx hb dX0_wave_35 (by decide) (fun c3 => ?_) (fun c3 => ?_)
      · refine r_iconst hx hb dX0_wave_50 ?_
        exact a_iret hCK hQ hr hlk hG hS (by omega) (by omega) dX0_wave_51 (Or.inr ⟨by omega, rfl, rfl, rfl, rfl⟩)
      · refine lv_aload_n hx hb dX0_wave_38 rfl (lv_at hl 0 rfl) ?_
        refine a_get hCK hG 0 e_mn v_mn k_mn (ci := 0) rfl in_X0 8 (by decide) q206 rfl rfl dX0_wave_39 ?_
        refine W.eq (g2 := F0 m 42 ls [.ref (ad 14)]) rfl ?_
        refine s_calli (j_runV (n := 0) (C := RJ2) (b := ad 14) (rest := []) (as := []) hx hb hml hown hts ((by have h := met_lsize l adK adV st D E A (cV nv F S) ad (cC E ad I F S Y L) 14 18 (S 14 0) (I 18) v_li (by rw [e_ar]; exact k_li); rw [e_li] at h; exact h)) GB.blind (GB.at hK hG hE hS) (by have h := g_rec (r := 14) (ci := 10) hK hG v_li rfl k_li; rw [e_li] at h; exact h) q641 q614 q615 q71 q616 (by decide +kernel) ⟨rfl, rfl⟩ hR ⟨Nat.le_of_ble_eq_true rfl, Nat.le_of_ble_eq_true rfl⟩ ⟨Nat.zero_le _, Nat.zero_le _⟩ rfl hl.1 rfl (Nat.le_of_ble_eq_true rfl) dX0_wave_42) ?_
        refine r_bipush hx hb dX0_wave_45 (by decide) ?_
        refine r_icmp_ne (tgt := 52) hx hb dX0_wave_47 (by decide) (by omega) (by decide) (fun c4 => ?_) (fun c4 => ?_)
        · obtain ⟨k, hk⟩ : ∃ k : Nat, I 18 = (k : Int) := ⟨(I 18).toNat, by omega⟩
          have hkn : nv 3 = k := by omega
          have hk12 : k < 8 := by omega
          have hnk : ¬ cV nv F S (3400 + k) := by unfold cV; omega
          have hn29 : ¬ cV nv F S 29 := by unfold cV; omega
          have hel : elOK (cV nv F S) ad (cC E ad I F S Y L) 14 18 (fun j : Nat => if (j : Int) < I 18 then some (ad (3400 + j)) else none) := by
            intro i y hy
            by_cases ci : (i : Int) < I 18
            · have hy : (if (i : Int) < I 18 then some (ad (3400 + i)) else none) = some y := hy
              rw [if_pos ci] at hy
              cases hy
              exact ⟨3400 + i, rfl, by unfold cV; omega, by omega, by omega, 6, _, _, cC_wv (by omega), rfl, q1551⟩
            · have hy : (if (i : Int) < I 18 then some (ad (3400 + i)) else none) = some y := hy
              rw [if_neg ci] at hy
              cases hy
          have hOa : ∀ q, (q ≠ 3400 + k) → ad q = ad q := fun _ _ => rfl
          have hOc : ∀ q, (q ≠ 3400 + k) → cC E ad I F S Y L q = cC E ad I F S Y L q := fun _ _ => rfl
          refine lv_aload_n hx hb dX0_wave_52 rfl (lv_at hl 0 rfl) ?_
          refine a_get hCK hG 0 e_mn v_mn k_mn (ci := 0) rfl in_X0 8 (by decide) q206 rfl rfl dX0_wave_53 ?_
          refine W.eq (g2 := F0 m 56 ls [.ref (ad 14)]) rfl ?_
          refine a_new (ci := 6) (fs := [.int (iI 0), .int (iI 0), .int (iI 0)]) tyX6 hCK hG hS hA (3400 + k) in_X6 tyX6_ok q801 q802 q83 rfl (by decide) (by rw [hR]; show _ ≤ _; (try unfold amr); (try simp only []); omega) (by rw [hR]; show _ ≤ _; (try unfold amr); (try simp only []); omega) dX0_wave_56 (fun x5 ad6 C7 H e_it k_it oo10 hG hS oh11 => ?_)
          obtain ⟨V12, hV12⟩ : ∃ X : Nat → Prop, X = fun q => (cV nv F S) q ∨ q = 3400 + k := ⟨_, rfl⟩
          rw [← hV12] at hG
          have v_mn : V12 0 := by rw [hV12]; exact Or.inl v_mn
          have e_mn : ad6 0 = ad 0 := (oo10 0 (by omega)).1.trans e_mn
          have k_mn : C7 0 = .inr (0, [.ref (ad 1), .int (iI (I 48)), (if S 0 2 = 0 then .null else .ref (ad 30)), .ref (ad 2), .ref (ad 3), .ref (ad 11), .ref (ad 12), .ref (ad 13), .ref (ad 14), .ref (ad 4), .ref (ad 5), .int (iI (I 15)), .int (iI (I 22)), .int (iI (I 23)), .int (iI (I 24)), .int (iI (I 25)), .ref (ad 19), .ref (ad 20), .ref (ad 9), .ref (ad 6), .ref (ad 7), .ref (ad 10), .int (iI (I 41)), .int (iI (I 44)), .ref (ad 8), .int (iI (I 45))]) := (oo10 0 (by omega)).2.trans k_mn
          have v_li : V12 14 := by rw [hV12]; exact Or.inl v_li
          have e_li : ad6 14 = ad 14 := (oo10 14 (by omega)).1.trans e_li
          have k_li : C7 14 = .inr (10, [.int (iI (S 14 0)), .ref (ad 18), .int (iI (I 18))]) := (oo10 14 (by omega)).2.trans k_li
          have v_ar : V12 18 := by rw [hV12]; exact Or.inl v_ar
          have e_ar : ad6 18 = ad 18 := (oo10 18 (by omega)).1.trans e_ar
          have k_ar : C7 18 = .inl (E 5, (L 18), ar (fun j => if (j : Int) < I 18 then some (ad (3400 + j)) else none)) := (oo10 18 (by omega)).2.trans k_ar
          have v_it : V12 (3400 + k) := by rw [hV12]; exact Or.inr rfl
          have hOa : ∀ q, (q ≠ 3400 + k) → ad6 q = ad q := fun q hq => (oo10 q (by omega)).1.trans (hOa q hq)
          have hOc : ∀ q, (q ≠ 3400 + k) → C7 q = (cC E ad I F S Y L) q := fun q hq => (oo10 q (by omega)).2.trans (hOc q hq)
          refine lv_dup hx hb dX0_wave_59 rfl ?_
          refine lv_iload_n hx hb dX0_wave_60 rfl (lv_at hl 1 rfl) ?_
          refine lv_iload_n hx hb dX0_wave_61 rfl (lv_at hl 2 rfl) ?_
          refine lv_iload_n hx hb dX0_wave_62 rfl (lv_at hl 3 rfl) ?_
          refine a_callv (a_runI (n := 3) (b := x5) (rest := [.ref x5, .ref (ad 14)]) (as := [.int (iI ht), .int (iI pr), .int (iI ph)]) hCK hE hA hml (met_xi6 l adK adV st D E A V12 ad6 C7 (3400 + k) x5 ht pr ph v_it e_it k_it) q803 q804 q83 q805 rfl (by decide +kernel) ⟨rfl, rfl⟩ hR ⟨Nat.le_of_ble_eq_true rfl, Nat.le_of_ble_eq_true rfl⟩ ⟨(by rw [hR]; show _ ≤ _; (try unfold amr); (try simp only []); omega), (by rw [hR]; show _ ≤ _; (try unfold amr); (try simp only []); omega)⟩ hG hS rfl hl.1 rfl (Nat.le_of_ble_eq_true rfl) dX0_wave_63) hS (fun ad14 V15 C16 H locs hp17 hG hS => ?_)
          obtain ⟨rfl, rfl, kk19, oo18⟩ := hp17
          have k_it : C16 (3400 + k) = .inr (6, [.int (iI ht), .int (iI pr), .int (iI ph)]) := kk19
          have k_mn : C16 0 = .inr (0, [.ref (ad 1), .int (iI (I 48)), (if S 0 2 = 0 then .null else .ref (ad 30)), .ref (ad 2), .ref (ad 3), .ref (ad 11), .ref (ad 12), .ref (ad 13), .ref (ad 14), .ref (ad 4), .ref (ad 5), .int (iI (I 15)), .int (iI (I 22)), .int (iI (I 23)), .int (iI (I 24)), .int (iI (I 25)), .ref (ad 19), .ref (ad 20), .ref (ad 9), .ref (ad 6), .ref (ad 7), .ref (ad 10), .int (iI (I 41)), .int (iI (I 44)), .ref (ad 8), .int (iI (I 45))]) := (oo18 0 (by omega)).trans k_mn
          have k_li : C16 14 = .inr (10, [.int (iI (S 14 0)), .ref (ad 18), .int (iI (I 18))]) := (oo18 14 (by omega)).trans k_li
          have k_ar : C16 18 = .inl (E 5, (L 18), ar (fun j => if (j : Int) < I 18 then some (ad (3400 + j)) else none)) := (oo18 18 (by omega)).trans k_ar
          have hOa : ∀ q, (q ≠ 3400 + k) → ad6 q = ad q := hOa
          have hOc : ∀ q, (q ≠ 3400 + k) → C16 q = (cC E ad I F S Y L) q := fun q hq => (oo18 q (by omega)).trans (hOc q hq)
          have hel : elOK V12 ad6 C16 14 18 (fun j : Nat => if (j : Int) < I 18 then some (ad (3400 + j)) else none) := by
            intro i y hy
            obtain ⟨q, h1, h2, h3, h4, ci, fs, r, h5, h6, h7⟩ := hel i y hy
            have hc : q ≠ 3400 + k := (fun z => hnk (z ▸ h2))
            exact ⟨q, h1.trans (hOa q hc).symm, by rw [hV12]; exact Or.inl h2, h3, h4, ci, fs, r, (hOc q hc).trans h5, h6, h7⟩
          have hrn : ¬ V12 29 := by
            rw [hV12]
            rintro (h | h)
            · exact hn29 h
            · omega
          refine a_calli (a_runV (n := 1) (C0 := RJ2) (b := ad 14) (rest := []) (as := [.ref x5]) hCK hE hA hml (met_add l adK adV st D E A V12 ad6 C16 14 18 (ad 14) (ad 18) (L 18) (S 14 0) (I 18) (fun j : Nat => if (j : Int) < I 18 then some (ad (3400 + j)) else none) (by decide) v_li e_li k_li v_ar e_ar k_ar hel (by omega) 29 hrn (3400 + k) x5 v_it e_it ⟨6, _, _, k_it, rfl, q1551⟩ (by omega) (by omega) (fun j hj => if_neg (by omega)) 1 30 (by omega)) (by have h := g_rec (r := 14) (ci := 10) hK hG v_li rfl k_li; rw [e_li] at h; exact h) q657 q533 q534 q71 q535 (by decide +kernel) ⟨rfl, rfl⟩ hR ⟨Nat.le_of_ble_eq_true rfl, Nat.le_of_ble_eq_true rfl⟩ ⟨(by rw [hR]; show _ ≤ _; (try unfold amr); (try simp only []); omega), (by rw [hR]; show _ ≤ _; (try unfold amr); (try simp only []); omega)⟩ hG hS rfl hl.1 rfl (Nat.le_of_ble_eq_true rfl) dX0_wave_66) hS (fun z20 ad21 V22 C23 H locs hp24 hG hS => ?_)
          obtain ⟨rfl, rfl, xq9, cap1, hc9, e_ar, k_ar, k_li, o1, o2⟩ := hp24
          have e_mn : ad21 0 = ad 0 := (o1 0 (by omega) (by omega)).trans e_mn
          have k_mn : C23 0 = .inr (0, [.ref (ad 1), .int (iI (I 48)), (if S 0 2 = 0 then .null else .ref (ad 30)), .ref (ad 2), .ref (ad 3), .ref (ad 11), .ref (ad 12), .ref (ad 13), .ref (ad 14), .ref (ad 4), .ref (ad 5), .int (iI (I 15)), .int (iI (I 22)), .int (iI (I 23)), .int (iI (I 24)), .int (iI (I 25)), .ref (ad 19), .ref (ad 20), .ref (ad 9), .ref (ad 6), .ref (ad 7), .ref (ad 10), .int (iI (I 41)), .int (iI (I 44)), .ref (ad 8), .int (iI (I 45))]) := (o2 0 (by omega) (by omega) (by omega)).trans k_mn
          have e_li : ad21 14 = ad 14 := (o1 14 (by omega) (by omega)).trans e_li
          have e_it : ad21 (3400 + k) = x5 := (o1 (3400 + k) (by omega) (by omega)).trans e_it
          have k_it : C23 (3400 + k) = .inr (6, [.int (iI ht), .int (iI pr), .int (iI ph)]) := (o2 (3400 + k) (by omega) (by omega) (by omega)).trans k_it
          have hOa : ∀ q, (q ≠ 3400 + k ∧ q ≠ 29 ∧ q ≠ 18) → ad21 q = ad q := fun q hq => (o1 q (by omega) (by omega)).trans (hOa q (by omega))
          have hOc : ∀ q, (q ≠ 3400 + k ∧ q ≠ 29 ∧ q ≠ 18 ∧ q ≠ 14) → C23 q = cC E ad I F S Y L q := fun q hq => (o2 q (by omega) (by omega) (by omega)).trans (hOc q (by omega))
          refine W.eq (g2 := F0 m 69 ls [.int (iI 1)]) rfl ?_
          refine lv_istore (lv' := [(4, .int (iI 1)), (0, .ref (ad 0)), (1, .int (iI ht)), (2, .int (iI pr)), (3, .int (iI ph))]) hx hb dX0_wave_69 hl (by decide) rfl (fun ls hl => ?_)
          refine lv_aload_n hx hb dX0_wave_71 rfl (lv_at hl 1 rfl) ?_
          refine a_get hCK hG 0 e_mn v_mn k_mn (ci := 0) rfl in_X0 8 (by decide) q206 rfl rfl dX0_wave_72 ?_
          refine W.eq (g2 := F0 m 75 ls [.ref (ad 14)]) rfl ?_
          refine s_calli (j_runV (n := 0) (C := RJ2) (b := ad 14) (rest := []) (as := []) hx hb hml hown hts ((by have h := met_lsize l adK adV st D E A V12 ad21 C23 14 18 (S 14 0 + 1) (I 18 + 1) v_li (by rw [e_ar]; exact k_li); rw [e_li] at h; exact h)) GB.blind (GB.at hK hG hE hS) (by have h := g_rec (r := 14) (ci := 10) hK hG v_li rfl k_li; rw [e_li] at h; exact h) q641 q614 q615 q71 q616 (by decide +kernel) ⟨rfl, rfl⟩ hR ⟨Nat.le_of_ble_eq_true rfl, Nat.le_of_ble_eq_true rfl⟩ ⟨(by rw [hR]; show _ ≤ _; (try unfold amr); (try simp only []); omega), (by rw [hR]; show _ ≤ _; (try unfold amr); (try simp only []); omega)⟩ rfl hl.1 rfl (Nat.le_of_ble_eq_true rfl) dX0_wave_75) ?_
          refine r_iconst hx hb dX0_wave_78 ?_
          refine r_isub hx hb dX0_wave_79 ?_
          have hcap1 : (4 ≤ cap1 ∧ cap1 ≤ 20) ∧ I 18 + 1 ≤ (cap1 : Int) := by omega
          have hv9 : ∀ r, cV (va_up nv 3 (nv 3 + 1)) (upF (upF (upF F 19 (I 18) ht) 20 (I 18) pr) 21 (I 18) ph) (up2 S 14 0 (S 14 0 + 1)) r → V12 r := by
            intro r hr
            have h := cVu_3 (F := F) (S := S) (k := k) hkn rfl rfl rfl (by rw [← hkn]; exact hr)
            rw [hV12]
            exact h
          have hc9e : ∀ r, cV (va_up nv 3 (nv 3 + 1)) (upF (upF (upF F 19 (I 18) ht) 20 (I 18) pr) 21 (I 18) ph) (up2 S 14 0 (S 14 0 + 1)) r → cEq (C23 r) (cC E ad21 (va_up I 18 (I 18 + 1)) (upF (upF (upF F 19 (I 18) ht) 20 (I 18) pr) 21 (I 18) ph) (up2 S 14 0 (S 14 0 + 1)) Y (va_up L 18 cap1) r) := by
            intro r hr
            by_cases c1 : r = 14
            · subst c1; exact Or.inl (by rw [k_li, cC_l (by decide), ← e_ar]; rfl)
            by_cases c2 : r = 18
            · subst c2
              rw [k_ar, cC_e (by decide)]
              have e1 : va_up L 18 cap1 18 = cap1 := va_up_s _ _ _
              rw [e1]
              refine cEq_r (fun j hj => ?_)
              show va_up (fun j : Nat => if (j : Int) < I 18 then some (ad (3400 + j)) else none) (I 18).toNat (some x5) j = if (j : Int) < I 18 + 1 then some (ad21 (3400 + j)) else none
              by_cases cj : j = (I 18).toNat
              · rw [cj, va_up_s, if_pos (by omega), show 3400 + (I 18).toNat = 3400 + k by omega, e_it]
              · rw [va_up_ne _ _ cj]
                by_cases cl : (j : Int) < I 18
                · rw [if_pos cl, if_pos (by omega), hOa (3400 + j) (by omega)]
                · rw [if_neg cl, if_neg (by omega)]
            by_cases c4 : r = 3400 + k
            · subst c4
              refine Or.inl ?_
              rw [k_it, cC_wv (by omega)]
              have f19 : (upF (upF (upF F 19 (I 18) ht) 20 (I 18) pr) 21 (I 18) ph) 19 (k : Int) = ht := by rw [← hk]; simp [upF, va_up, updZ]
              have f20 : (upF (upF (upF F 19 (I 18) ht) 20 (I 18) pr) 21 (I 18) ph) 20 (k : Int) = pr := by rw [← hk]; simp [upF, va_up, updZ]
              have f21 : (upF (upF (upF F 19 (I 18) ht) 20 (I 18) pr) 21 (I 18) ph) 21 (k : Int) = ph := by rw [← hk]; simp [upF, va_up, updZ]
              rw [f19, f20, f21]
            have h29 : r ≠ 29 := fun z => hrn (z ▸ hv9 r hr)
            rw [hOc r (by omega)]
            exact cCg_3 (F1 := (upF (upF (upF F 19 (I 18) ht) 20 (I 18) pr) 21 (I 18) ph)) k hk12 (by omega) (fun j n19 n20 n21 => by simp [upF, va_up, n19, n20, n21]) (fun j z nz => F1k_3 (by rw [hk]; exact nz)) (fun q h1 h2 h3 => hOa q (by omega)) c1 c2 c4
          have hG := hG.cgE hv9 hc9e
          refine W.eq (g2 := F0 m 80 ls [.int (iI (I 18))]) (by rw [show I 18 + 1 - 1 = I 18 by omega]) ?_
          exact a_iret hCK hQ hr hlk hG hS (by omega) (by omega) dX0_wave_80 (Or.inl ⟨by omega, rfl, cap1, rfl, rfl, hcap1⟩)
        · refine r_iconst hx hb dX0_wave_50 ?_
          exact a_iret hCK hQ hr hlk hG hS (by omega) (by omega) dX0_wave_51 (Or.inr ⟨by omega, rfl, rfl, rfl, rfl⟩)
