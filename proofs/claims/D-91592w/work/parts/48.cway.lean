/-! THE COMPONENT: feed, the way -/
set_option maxRecDepth 100000

theorem fedT_cat {f B C : Int → Int} {s m : Int} (hm : 0 ≤ m) (h : ∀ j, 0 ≤ j → j < 4 → C j = B (m + j)) : fedT (fedT f s B m) (s + m) C 4 = fedT f s B (m + 4) := by
  funext z
  unfold fedT
  by_cases c1 : s + m ≤ z ∧ z < s + m + 4
  · rw [if_pos c1, if_pos (by omega), h _ (by omega) (by omega)]
    congr 1
    omega
  · rw [if_neg c1]
    by_cases c2 : s ≤ z ∧ z < s + m
    · rw [if_pos c2, if_pos (by omega)]
    · rw [if_neg c2, if_neg (by omega)]
theorem feedI (I : Nat → Int) (n : Int) : va_up (va_up I 48 (I 48 + n)) 48 ((va_up I 48 (I 48 + n)) 48 + 4) = va_up I 48 (I 48 + (n + 4)) := by rw [up_up, va_up_self, Int.add_assoc]
theorem feedF (F : Nat → Int → Int) (I : Nat → Int) {B C : Int → Int} {m : Int} (hm : 0 ≤ m) (h : ∀ j, 0 ≤ j → j < 4 → C j = B (m + j)) : va_up (va_up F 47 (fedT (F 47) (I 48) B m)) 47 (fedT ((va_up F 47 (fedT (F 47) (I 48) B m)) 47) ((va_up I 48 (I 48 + m)) 48) C 4) = va_up F 47 (fedT (F 47) (I 48) B (m + 4)) := by rw [up_up, va_up_self, va_up_self, fedT_cat hm h]
theorem foldB_ex (rst q : Int → Int) : ∀ n : Nat, foldB rst q n ≠ -1 → ∃ v : Nat, v < n ∧ rst v ≠ -1 ∧ rst v + q v = foldB rst q n
  | 0, h => absurd rfl h
  | n + 1, h => by
    show ∃ v : Nat, v < n + 1 ∧ rst v ≠ -1 ∧ rst v + q v = stpB (foldB rst q n) (rst n) (q n)
    have h' : stpB (foldB rst q n) (rst n) (q n) ≠ -1 := h
    unfold stpB at h' ⊢
    by_cases c : rst n ≠ -1 ∧ (foldB rst q n = -1 ∨ rst n + q n < foldB rst q n)
    · rw [if_pos c]
      exact ⟨n, by omega, c.1, rfl⟩
    · rw [if_neg c] at h' ⊢
      obtain ⟨v, h1, h2, h3⟩ := foldB_ex rst q n h'
      exact ⟨v, by omega, h2, h3⟩
theorem foldB_ne {rst q : Int → Int} (hr : ∀ v, -1 ≤ rst v) (hq : ∀ v, 0 ≤ q v) : ∀ (n v : Nat), v < n → rst v ≠ -1 → foldB rst q n ≠ -1
  | 0, v, h, _ => by omega
  | n + 1, v, h, hv => by
    show stpB (foldB rst q n) (rst n) (q n) ≠ -1
    have h1 := hr n
    have h2 := hq n
    unfold stpB
    by_cases c : rst n ≠ -1 ∧ (foldB rst q n = -1 ∨ rst n + q n < foldB rst q n)
    · rw [if_pos c]
      omega
    · rw [if_neg c]
      by_cases cv : v = n
      · subst cv
        omega
      · exact foldB_ne hr hq n v (by omega) hv
theorem lstS_ne {per hei : Int → Int} {own hrs : Int} (hh : Bd hei 12 0 60) (hr : hrs ≤ 12) : ∀ (d : Nat) (m : Int), (d : Int) ≤ hrs → 0 ≤ m → m ≤ 3 * d → lstS per hei own hrs d m ≠ -1
  | 0, m, _, h0, h1 => by
    unfold lstS
    rw [if_pos (by omega)]
    decide
  | d + 1, m, hd, h0, h1 => by
    show foldB _ _ 4 ≠ -1
    refine foldB_ne (fun v => (lstS_bd hh hr d _ (by omega)).1) (fun v => (queasyS_bd v (hh _ (by omega) (by omega))).1) 4 3 (by decide) ?_
    refine lstS_ne hh hr d _ (by omega) ?_ ?_ <;> (split <;> omega)
theorem Lw_ne {I : Nat → Int} {F : Nat → Int → Int} (gw : gWay I F) {m : Int} (h0 : 0 ≤ m) (h1 : m ≤ 3 * I 41) : Lw I F 0 m ≠ -1 := by
  obtain ⟨i41, i44, a42, a43⟩ := gw
  unfold Lw
  exact lstS_ne a42 i41.2 _ _ (by omega) h0 (by omega)
theorem Lw_pick {I : Nat → Int} {F : Nat → Int → Int} {h m : Int} (hh : h < I 41) (hne : Lw I F h m ≠ -1) : ∃ v : Int, 0 ≤ v ∧ v ≤ 3 ∧ cdB (Lw I F) (qwS I F) h m v := by
  have e := Lw_s I F m hh
  rw [e] at hne
  obtain ⟨v, h1, h2, h3⟩ := foldB_ex _ _ 4 hne
  refine ⟨(v : Int), by omega, by omega, h2, ?_⟩
  rw [e]
  exact h3
theorem mxq (a b : Int) : (if 0 < a - b then a - b else 0) = (if a < b then 0 else a - b) := by
  by_cases h : a < b
  · rw [if_neg (by omega), if_pos h]
  · rw [if_neg h]
    by_cases h2 : 0 < a - b
    · rw [if_pos h2]
    · rw [if_neg h2]
      omega
theorem feed_c0 (a1 a2 a3 a4 a5 : Int) : ∀ j, 0 ≤ j → j < 4 → (fun j => b8 (ushrZ a1 (8 * (3 - j)))) j = (byteOf5 a1 a2 a3 a4 a5) (0 + j) := by
  intro j h0 h1
  rcases (show j = 0 ∨ j = 1 ∨ j = 2 ∨ j = 3 by omega) with rfl | rfl | rfl | rfl
  · exact b8_sh a1 24 (by decide)
  · exact b8_sh a1 16 (by decide)
  · exact b8_sh a1 8 (by decide)
  · exact b8_sh a1 0 (by decide)
theorem feed_c1 (a1 a2 a3 a4 a5 : Int) : ∀ j, 0 ≤ j → j < 4 → (fun j => b8 (ushrZ a2 (8 * (3 - j)))) j = (byteOf5 a1 a2 a3 a4 a5) (4 + j) := by
  intro j h0 h1
  rcases (show j = 0 ∨ j = 1 ∨ j = 2 ∨ j = 3 by omega) with rfl | rfl | rfl | rfl
  · exact b8_sh a2 24 (by decide)
  · exact b8_sh a2 16 (by decide)
  · exact b8_sh a2 8 (by decide)
  · exact b8_sh a2 0 (by decide)
theorem feed_c2 (a1 a2 a3 a4 a5 : Int) : ∀ j, 0 ≤ j → j < 4 → (fun j => b8 (ushrZ a3 (8 * (3 - j)))) j = (byteOf5 a1 a2 a3 a4 a5) (8 + j) := by
  intro j h0 h1
  rcases (show j = 0 ∨ j = 1 ∨ j = 2 ∨ j = 3 by omega) with rfl | rfl | rfl | rfl
  · exact b8_sh a3 24 (by decide)
  · exact b8_sh a3 16 (by decide)
  · exact b8_sh a3 8 (by decide)
  · exact b8_sh a3 0 (by decide)
theorem feed_c3 (a1 a2 a3 a4 a5 : Int) : ∀ j, 0 ≤ j → j < 4 → (fun j => b8 (ushrZ a4 (8 * (3 - j)))) j = (byteOf5 a1 a2 a3 a4 a5) (12 + j) := by
  intro j h0 h1
  rcases (show j = 0 ∨ j = 1 ∨ j = 2 ∨ j = 3 by omega) with rfl | rfl | rfl | rfl
  · exact b8_sh a4 24 (by decide)
  · exact b8_sh a4 16 (by decide)
  · exact b8_sh a4 8 (by decide)
  · exact b8_sh a4 0 (by decide)
theorem feed_c4 (a1 a2 a3 a4 a5 : Int) : ∀ j, 0 ≤ j → j < 4 → (fun j => b8 (ushrZ a5 (8 * (3 - j)))) j = (byteOf5 a1 a2 a3 a4 a5) (16 + j) := by
  intro j h0 h1
  rcases (show j = 0 ∨ j = 1 ∨ j = 2 ∨ j = 3 by omega) with rfl | rfl | rfl | rfl
  · exact b8_sh a5 24 (by decide)
  · exact b8_sh a5 16 (by decide)
  · exact b8_sh a5 8 (by decide)
  · exact b8_sh a5 0 (by decide)
theorem dX0_feed_0 : decode cX0_feed 0 = .ok (.aload_n 0, 1) := by decide +kernel
theorem dX0_feed_1 : decode cX0_feed 1 = .ok (.getfield 95, 3) := by decide +kernel
theorem dX0_feed_4 : decode cX0_feed 4 = .ok (.bipush 20, 2) := by decide +kernel
theorem dX0_feed_6 : decode cX0_feed 6 = .ok (.iadd, 1) := by decide +kernel
theorem dX0_feed_7 : decode cX0_feed 7 = .ok (.sipush 300, 3) := by decide +kernel
theorem dX0_feed_10 : decode cX0_feed 10 = .ok (.if_icmp .le 5, 3) := by decide +kernel
theorem dX0_feed_13 : decode cX0_feed 13 = .ok (.iconst (-1), 1) := by decide +kernel
theorem dX0_feed_14 : decode cX0_feed 14 = .ok (.ireturn, 1) := by decide +kernel
theorem dX0_feed_15 : decode cX0_feed 15 = .ok (.aload_n 0, 1) := by decide +kernel
theorem dX0_feed_16 : decode cX0_feed 16 = .ok (.iload_n 1, 1) := by decide +kernel
theorem dX0_feed_17 : decode cX0_feed 17 = .ok (.invokevirtual 98, 3) := by decide +kernel
theorem dX0_feed_20 : decode cX0_feed 20 = .ok (.aload_n 0, 1) := by decide +kernel
theorem dX0_feed_21 : decode cX0_feed 21 = .ok (.iload_n 2, 1) := by decide +kernel
theorem dX0_feed_22 : decode cX0_feed 22 = .ok (.invokevirtual 98, 3) := by decide +kernel
theorem dX0_feed_25 : decode cX0_feed 25 = .ok (.aload_n 0, 1) := by decide +kernel
theorem dX0_feed_26 : decode cX0_feed 26 = .ok (.iload_n 3, 1) := by decide +kernel
theorem dX0_feed_27 : decode cX0_feed 27 = .ok (.invokevirtual 98, 3) := by decide +kernel
theorem dX0_feed_30 : decode cX0_feed 30 = .ok (.aload_n 0, 1) := by decide +kernel
theorem dX0_feed_31 : decode cX0_feed 31 = .ok (.iload 4, 2) := by decide +kernel
theorem dX0_feed_33 : decode cX0_feed 33 = .ok (.invokevirtual 98, 3) := by decide +kernel
theorem dX0_feed_36 : decode cX0_feed 36 = .ok (.aload_n 0, 1) := by decide +kernel
theorem dX0_feed_37 : decode cX0_feed 37 = .ok (.iload 5, 2) := by decide +kernel
theorem dX0_feed_39 : decode cX0_feed 39 = .ok (.invokevirtual 98, 3) := by decide +kernel
theorem dX0_feed_42 : decode cX0_feed 42 = .ok (.aload_n 0, 1) := by decide +kernel
theorem dX0_feed_43 : decode cX0_feed 43 = .ok (.getfield 95, 3) := by decide +kernel
theorem dX0_feed_46 : decode cX0_feed 46 = .ok (.ireturn, 1) := by decide +kernel
set_option maxHeartbeats 4000000 in
theorem cfeed (l : Launch) (adK adV st : Nat → Nat) (D : va_G) (E : Nat → ClassId) (A : Nat → Prop) (ad nv : Nat → Nat) (I : Nat → Int) (F : Nat → Int → Int) (S : Nat → Nat → Int) (Y : Nat → Int → Int) (L : Nat → Nat) (a1 a2 a3 a4 a5 : Int) (gt0 : gTxt I F) : CM l yX0_feed cX0_feed 6 (some .int) (mrm 1) adK adV st D E A ad nv [.ref (ad 0), .int (iI a1), .int (iI a2), .int (iI a3), .int (iI a4), .int (iI a5)] I F S Y L (CQi D E A ad nv L (fun z I1 F1 S1 Y1 => (I 48 ≤ 280 ∧ I 48 + 20 = z ∧ va_up I 48 (I 48 + 20) = I1 ∧ va_up F 47 (fedT (F 47) (I 48) (byteOf5 a1 a2 a3 a4 a5) 20) = F1 ∧ S = S1 ∧ Y = Y1) ∨ (280 < I 48 ∧ -1 = z ∧ I = I1 ∧ F = F1 ∧ S = S1 ∧ Y = Y1))) := by
  refine c_start (by decide) rfl (Nat.le_of_ble_eq_true rfl) ?_
  intro p e R s m args below meth c ls Q hR hQ hCK hml hr hlk hG hS hE hl
  have hx := hCK.1
  have hb := hCK.2.1
  have hown := hCK.2.2.1
  have hts := hCK.2.2.2.1
  have hK := hCK.2.2.2.2
  have hl : lv_has ls 6 [(0, .ref (ad 0)), (1, .int (iI a1)), (2, .int (iI a2)), (3, .int (iI a3)), (4, .int (iI a4)), (5, .int (iI a5))] := hl
  obtain ⟨i48, a47⟩ := id gt0
  refine lv_aload_n hx hb dX0_feed_0 rfl (lv_at hl 0 rfl) ?_
  refine cg_X0_95 (v := I 48) hCK hG rfl dX0_feed_1 ?_
  refine r_bipush hx hb dX0_feed_4 (by decide) ?_
  refine r_iadd hx hb dX0_feed_6 ?_
  refine r_sipush hx hb dX0_feed_7 (by decide) ?_
  refine r_icmp_le (tgt := 15) hx hb dX0_feed_10 (by decide) (by omega) (by decide) (fun c1 => ?_) (fun c1 => ?_)
  · have hG : CW D E A ad nv (va_up I 48 (I 48 + 0)) (va_up F 47 (fedT (F 47) (I 48) (byteOf5 a1 a2 a3 a4 a5) 0)) S Y L s.heap := by
      rw [Int.add_zero, up_self, fedT_0, up_self]; exact hG
    refine lv_aload_n hx hb dX0_feed_15 rfl (lv_at hl 0 rfl) ?_
    refine lv_iload_n hx hb dX0_feed_16 rfl (lv_at hl 1 rfl) ?_
    refine c_callv (c_run (n := 1) (C0 := RX0) (b := ad 0) (rest := []) (as := [.int (iI a1)]) hCK hE hml (cfeeds l adK adV st D E A ad nv (va_up I 48 (I 48 + 0)) (va_up F 47 (fedT (F 47) (I 48) (byteOf5 a1 a2 a3 a4 a5) 0)) S Y L a1 (by rw [va_up_self]; omega)) (g_rec (r := 0) (ci := 0) hK hG (Or.inl (by decide)) rfl cC_0) q288 q290 qs0 q68 q291 (by decide +kernel) ⟨rfl, rfl⟩ hR (by decide) ⟨Nat.zero_le _, Nat.zero_le _⟩ hG hS rfl hl.1 rfl (Nat.le_of_ble_eq_true rfl) dX0_feed_17) hS (fun I3 F4 S5 Y6 H locs hp7 hG hS => ?_)
    obtain ⟨rfl, rfl, rfl, rfl⟩ := hp7
    have hG : CW D E A ad nv (va_up I 48 (I 48 + 4)) (va_up F 47 (fedT (F 47) (I 48) (byteOf5 a1 a2 a3 a4 a5) 4)) S Y L H := by
      have q := hG
      rw [feedI, feedF F I (by decide) (feed_c0 a1 a2 a3 a4 a5)] at q
      exact q
    refine lv_aload_n hx hb dX0_feed_20 rfl (lv_at hl 0 rfl) ?_
    refine lv_iload_n hx hb dX0_feed_21 rfl (lv_at hl 2 rfl) ?_
    refine c_callv (c_run (n := 1) (C0 := RX0) (b := ad 0) (rest := []) (as := [.int (iI a2)]) hCK hE hml (cfeeds l adK adV st D E A ad nv (va_up I 48 (I 48 + 4)) (va_up F 47 (fedT (F 47) (I 48) (byteOf5 a1 a2 a3 a4 a5) 4)) S Y L a2 (by rw [va_up_self]; omega)) (g_rec (r := 0) (ci := 0) hK hG (Or.inl (by decide)) rfl cC_0) q288 q290 qs0 q68 q291 (by decide +kernel) ⟨rfl, rfl⟩ hR (by decide) ⟨Nat.zero_le _, Nat.zero_le _⟩ hG hS rfl hl.1 rfl (Nat.le_of_ble_eq_true rfl) dX0_feed_22) hS (fun I9 F10 S11 Y12 H locs hp13 hG hS => ?_)
    obtain ⟨rfl, rfl, rfl, rfl⟩ := hp13
    have hG : CW D E A ad nv (va_up I 48 (I 48 + 8)) (va_up F 47 (fedT (F 47) (I 48) (byteOf5 a1 a2 a3 a4 a5) 8)) S Y L H := by
      have q := hG
      rw [feedI, feedF F I (by decide) (feed_c1 a1 a2 a3 a4 a5)] at q
      exact q
    refine lv_aload_n hx hb dX0_feed_25 rfl (lv_at hl 0 rfl) ?_
    refine lv_iload_n hx hb dX0_feed_26 rfl (lv_at hl 3 rfl) ?_
    refine c_callv (c_run (n := 1) (C0 := RX0) (b := ad 0) (rest := []) (as := [.int (iI a3)]) hCK hE hml (cfeeds l adK adV st D E A ad nv (va_up I 48 (I 48 + 8)) (va_up F 47 (fedT (F 47) (I 48) (byteOf5 a1 a2 a3 a4 a5) 8)) S Y L a3 (by rw [va_up_self]; omega)) (g_rec (r := 0) (ci := 0) hK hG (Or.inl (by decide)) rfl cC_0) q288 q290 qs0 q68 q291 (by decide +kernel) ⟨rfl, rfl⟩ hR (by decide) ⟨Nat.zero_le _, Nat.zero_le _⟩ hG hS rfl hl.1 rfl (Nat.le_of_ble_eq_true rfl) dX0_feed_27) hS (fun I15 F16 S17 Y18 H locs hp19 hG hS => ?_)
    obtain ⟨rfl, rfl, rfl, rfl⟩ := hp19
    have hG : CW D E A ad nv (va_up I 48 (I 48 + 12)) (va_up F 47 (fedT (F 47) (I 48) (byteOf5 a1 a2 a3 a4 a5) 12)) S Y L H := by
      have q := hG
      rw [feedI, feedF F I (by decide) (feed_c2 a1 a2 a3 a4 a5)] at q
      exact q
    refine lv_aload_n hx hb dX0_feed_30 rfl (lv_at hl 0 rfl) ?_
    refine lv_iload hx hb dX0_feed_31 (lv_at hl 4 rfl) ?_
    refine c_callv (c_run (n := 1) (C0 := RX0) (b := ad 0) (rest := []) (as := [.int (iI a4)]) hCK hE hml (cfeeds l adK adV st D E A ad nv (va_up I 48 (I 48 + 12)) (va_up F 47 (fedT (F 47) (I 48) (byteOf5 a1 a2 a3 a4 a5) 12)) S Y L a4 (by rw [va_up_self]; omega)) (g_rec (r := 0) (ci := 0) hK hG (Or.inl (by decide)) rfl cC_0) q288 q290 qs0 q68 q291 (by decide +kernel) ⟨rfl, rfl⟩ hR (by decide) ⟨Nat.zero_le _, Nat.zero_le _⟩ hG hS rfl hl.1 rfl (Nat.le_of_ble_eq_true rfl) dX0_feed_33) hS (fun I21 F22 S23 Y24 H locs hp25 hG hS => ?_)
    obtain ⟨rfl, rfl, rfl, rfl⟩ := hp25
    have hG : CW D E A ad nv (va_up I 48 (I 48 + 16)) (va_up F 47 (fedT (F 47) (I 48) (byteOf5 a1 a2 a3 a4 a5) 16)) S Y L H := by
      have q := hG
      rw [feedI, feedF F I (by decide) (feed_c3 a1 a2 a3 a4 a5)] at q
      exact q
    refine lv_aload_n hx hb dX0_feed_36 rfl (lv_at hl 0 rfl) ?_
    refine lv_iload hx hb dX0_feed_37 (lv_at hl 5 rfl) ?_
    refine c_callv (c_run (n := 1) (C0 := RX0) (b := ad 0) (rest := []) (as := [.int (iI a5)]) hCK hE hml (cfeeds l adK adV st D E A ad nv (va_up I 48 (I 48 + 16)) (va_up F 47 (fedT (F 47) (I 48) (byteOf5 a1 a2 a3 a4 a5) 16)) S Y L a5 (by rw [va_up_self]; omega)) (g_rec (r := 0) (ci := 0) hK hG (Or.inl (by decide)) rfl cC_0) q288 q290 qs0 q68 q291 (by decide +kernel) ⟨rfl, rfl⟩ hR (by decide) ⟨Nat.zero_le _, Nat.zero_le _⟩ hG hS rfl hl.1 rfl (Nat.le_of_ble_eq_true rfl) dX0_feed_39) hS (fun I27 F28 S29 Y30 H locs hp31 hG hS => ?_)
    obtain ⟨rfl, rfl, rfl, rfl⟩ := hp31
    have hG : CW D E A ad nv (va_up I 48 (I 48 + 20)) (va_up F 47 (fedT (F 47) (I 48) (byteOf5 a1 a2 a3 a4 a5) 20)) S Y L H := by
      have q := hG
      rw [feedI, feedF F I (by decide) (feed_c4 a1 a2 a3 a4 a5)] at q
      exact q
    refine lv_aload_n hx hb dX0_feed_42 rfl (lv_at hl 0 rfl) ?_
    refine cg_X0_95 (v := I 48 + 20) hCK hG rfl dX0_feed_43 ?_
    exact c_iret hCK hQ hr hlk hG hS dX0_feed_46 (Or.inl ⟨by omega, rfl, rfl, rfl, rfl, rfl⟩)
  · refine r_iconst hx hb dX0_feed_13 ?_
    exact c_iret hCK hQ hr hlk hG hS dX0_feed_14 (Or.inr ⟨by omega, rfl, rfl, rfl, rfl, rfl⟩)
theorem dX0_least_0 : decode cX0_least 0 = .ok (.iconst (-1), 1) := by decide +kernel
theorem dX0_least_1 : decode cX0_least 1 = .ok (.istore_n 3, 1) := by decide +kernel
theorem dX0_least_2 : decode cX0_least 2 = .ok (.iconst 0, 1) := by decide +kernel
theorem dX0_least_3 : decode cX0_least 3 = .ok (.istore 4, 2) := by decide +kernel
theorem dX0_least_5 : decode cX0_least 5 = .ok (.iload 4, 2) := by decide +kernel
theorem dX0_least_7 : decode cX0_least 7 = .ok (.iconst 4, 1) := by decide +kernel
theorem dX0_least_8 : decode cX0_least 8 = .ok (.if_icmp .ge 64, 3) := by decide +kernel
theorem dX0_least_11 : decode cX0_least 11 = .ok (.aload_n 0, 1) := by decide +kernel
theorem dX0_least_12 : decode cX0_least 12 = .ok (.getfield 86, 3) := by decide +kernel
theorem dX0_least_15 : decode cX0_least 15 = .ok (.iload_n 1, 1) := by decide +kernel
theorem dX0_least_16 : decode cX0_least 16 = .ok (.iconst 1, 1) := by decide +kernel
theorem dX0_least_17 : decode cX0_least 17 = .ok (.iadd, 1) := by decide +kernel
theorem dX0_least_18 : decode cX0_least 18 = .ok (.aaload, 1) := by decide +kernel
theorem dX0_least_19 : decode cX0_least 19 = .ok (.iconst 0, 1) := by decide +kernel
theorem dX0_least_20 : decode cX0_least 20 = .ok (.iload_n 2, 1) := by decide +kernel
theorem dX0_least_21 : decode cX0_least 21 = .ok (.iload 4, 2) := by decide +kernel
theorem dX0_least_23 : decode cX0_least 23 = .ok (.isub, 1) := by decide +kernel
theorem dX0_least_24 : decode cX0_least 24 = .ok (.invokestatic 327, 3) := by decide +kernel
theorem dX0_least_27 : decode cX0_least 27 = .ok (.iaload, 1) := by decide +kernel
theorem dX0_least_28 : decode cX0_least 28 = .ok (.istore 5, 2) := by decide +kernel
theorem dX0_least_30 : decode cX0_least 30 = .ok (.iload 5, 2) := by decide +kernel
theorem dX0_least_32 : decode cX0_least 32 = .ok (.iconst (-1), 1) := by decide +kernel
theorem dX0_least_33 : decode cX0_least 33 = .ok (.if_icmp .eq 33, 3) := by decide +kernel
theorem dX0_least_36 : decode cX0_least 36 = .ok (.iload_n 3, 1) := by decide +kernel
theorem dX0_least_37 : decode cX0_least 37 = .ok (.iconst (-1), 1) := by decide +kernel
theorem dX0_least_38 : decode cX0_least 38 = .ok (.if_icmp .eq 17, 3) := by decide +kernel
theorem dX0_least_41 : decode cX0_least 41 = .ok (.iload 5, 2) := by decide +kernel
theorem dX0_least_43 : decode cX0_least 43 = .ok (.aload_n 0, 1) := by decide +kernel
theorem dX0_least_44 : decode cX0_least 44 = .ok (.iload_n 1, 1) := by decide +kernel
theorem dX0_least_45 : decode cX0_least 45 = .ok (.iload 4, 2) := by decide +kernel
theorem dX0_least_47 : decode cX0_least 47 = .ok (.invokevirtual 329, 3) := by decide +kernel
theorem dX0_least_50 : decode cX0_least 50 = .ok (.iadd, 1) := by decide +kernel
theorem dX0_least_51 : decode cX0_least 51 = .ok (.iload_n 3, 1) := by decide +kernel
theorem dX0_least_52 : decode cX0_least 52 = .ok (.if_icmp .ge 14, 3) := by decide +kernel
theorem dX0_least_55 : decode cX0_least 55 = .ok (.iload 5, 2) := by decide +kernel
theorem dX0_least_57 : decode cX0_least 57 = .ok (.aload_n 0, 1) := by decide +kernel
theorem dX0_least_58 : decode cX0_least 58 = .ok (.iload_n 1, 1) := by decide +kernel
theorem dX0_least_59 : decode cX0_least 59 = .ok (.iload 4, 2) := by decide +kernel
theorem dX0_least_61 : decode cX0_least 61 = .ok (.invokevirtual 329, 3) := by decide +kernel
theorem dX0_least_64 : decode cX0_least 64 = .ok (.iadd, 1) := by decide +kernel
theorem dX0_least_65 : decode cX0_least 65 = .ok (.istore_n 3, 1) := by decide +kernel
theorem dX0_least_66 : decode cX0_least 66 = .ok (.iinc 4 1, 3) := by decide +kernel
theorem dX0_least_69 : decode cX0_least 69 = .ok (.goto (-64), 3) := by decide +kernel
theorem dX0_least_72 : decode cX0_least 72 = .ok (.iload_n 3, 1) := by decide +kernel
theorem dX0_least_73 : decode cX0_least 73 = .ok (.ireturn, 1) := by decide +kernel
set_option maxHeartbeats 4000000 in
theorem cleast (l : Launch) (adK adV st : Nat → Nat) (D : va_G) (E : Nat → ClassId) (A : Nat → Prop) (ad nv : Nat → Nat) (I : Nat → Int) (F : Nat → Int → Int) (S : Nat → Nat → Int) (Y : Nat → Int → Int) (L : Nat → Nat) (ho mi : Int) (hh : 0 ≤ ho ∧ ho < I 41) (hm : 0 ≤ mi ∧ mi < 37) (gw0 : gWay I F) (hq : ∀ j, 0 ≤ j → j ≤ mi → Y (2000 + (ho + 1).toNat) j = Lw I F (ho + 1) j) : JM l yX0_least cX0_least 6 (some .int) (mrm 1) (CX adK adV st D E A ad nv I F S Y L) [.ref (ad 0), .int (iI ho), .int (iI mi)] (vp_Si (fun r => r = iI (Lw I F ho mi))) := by
  refine j_start (by decide) rfl (Nat.le_of_ble_eq_true rfl) ?_
  intro p e R s m args below meth c ls Q hR hQ hC hml hr hlk hB hl
  have hx := hC.1
  have hb := hC.2.1
  have hown := hC.2.2.1
  have hts := hC.2.2.2
  have hS : va_S A s.heap s.heap [] := va_S.rf
  have hK := hB.1
  have hG := hB.2.1
  have hE := hB.2.2
  have hCK : CK p m c _ s args _ D E := ⟨hx, hb, hown, hts, hK⟩
  have hl : lv_has ls 6 [(0, .ref (ad 0)), (1, .int (iI ho)), (2, .int (iI mi))] := hl
  obtain ⟨i41, i44, a42, a43⟩ := id gw0
  have hLb := Lw_bd gw0
  have hfb : ∀ n : Nat, -1 ≤ foldB (fun v => Lw I F (ho + 1) (if mi < v then 0 else mi - v)) (queasyS (F 43) (F 42) (I 44) ho) n ∧ foldB (fun v => Lw I F (ho + 1) (if mi < v then 0 else mi - v)) (queasyS (F 43) (F 42) (I 44) ho) n ≤ 46080 + 3840 := fun n => foldB_bd (by decide) (fun v => hLb _ _ (by omega)) (fun v => queasyS_bd v (a42 _ (by omega) (by omega))) n
  refine r_iconst hx hb dX0_least_0 ?_
  refine lv_istore_n (lv' := [(3, .int (iI (-1))), (0, .ref (ad 0)), (1, .int (iI ho)), (2, .int (iI mi))]) hx hb dX0_least_1 rfl hl (by decide) rfl (fun ls hl => ?_)
  refine r_iconst hx hb dX0_least_2 ?_
  refine lv_istore (lv' := [(4, .int (iI 0)), (3, .int (iI (-1))), (0, .ref (ad 0)), (1, .int (iI ho)), (2, .int (iI mi))]) hx hb dX0_least_3 hl (by decide) rfl (fun ls hl => ?_)
  have loop5_1 : ∀ (n : Nat) (x v : Int), 4 - v < (n : Int) → x = foldB (fun v => Lw I F (ho + 1) (if mi < v then 0 else mi - v)) (queasyS (F 43) (F 42) (I 44) ho) v.toNat → 0 ≤ v → v ≤ 4 → ∀ (ls : Array Slot), lv_has ls 6 [(4, .int (iI v)), (3, .int (iI x)), (0, .ref (ad 0)), (1, .int (iI ho)), (2, .int (iI mi))] → W p l e R s m args below meth c s.heap [] 0 0 Q (F0 m 5 ls []) := by
    intro n
    induction n with
    | zero => intro x v hn3 ex hv0 hv1; exfalso; omega
    | succ n ih2 =>
      intro x v hn3 ex hv0 hv1 ls hl
      have hxb := hfb v.toNat
      rw [← ex] at hxb
      refine lv_iload hx hb dX0_least_5 (lv_at hl 0 rfl) ?_
      refine r_iconst hx hb dX0_least_7 ?_
      refine r_icmp_ge (tgt := 72) hx hb dX0_least_8 (by decide) (by omega) (by decide) (fun c4 => ?_) (fun c4 => ?_)
      · refine lv_iload_n hx hb dX0_least_72 rfl (lv_at hl 1 rfl) ?_
        exact j_iret hC hr hlk hQ dX0_least_73 (by rw [ex, show v = 4 by omega, Lw_s I F mi (by omega)]; rfl)
      · have hix : 0 ≤ (if mi < v then 0 else mi - v) ∧ (if mi < v then 0 else mi - v) ≤ mi := by split <;> omega
        refine lv_aload_n hx hb dX0_least_11 rfl (lv_at hl 2 rfl) ?_
        refine cg_X0_86 hCK hG dX0_least_12 ?_
        refine lv_iload_n hx hb dX0_least_15 rfl (lv_at hl 3 rfl) ?_
        refine r_iconst hx hb dX0_least_16 ?_
        refine r_iadd hx hb dX0_least_17 ?_
        refine cl_10 (z := ho + 1) hCK hG (by omega) dX0_least_18 ?_
        refine r_iconst hx hb dX0_least_19 ?_
        refine lv_iload_n hx hb dX0_least_20 rfl (lv_at hl 4 rfl) ?_
        refine lv_iload hx hb dX0_least_21 (lv_at hl 0 rfl) ?_
        refine r_isub hx hb dX0_least_23 ?_
        refine s_calli (j_runS (n := 2) (rest := [.ref (ad (2000 + (ho + 1).toNat))]) (as := [.int (iI 0), .int (iI (mi - v))]) hx hb hml hown hts ((met_max l 0 (mi - v) (by decide) (by omega)).jm) (fun _ _ _ _ _ => trivial) (fun _ _ _ => trivial) q973 q406 q76 q407 (by decide +kernel) ⟨rfl, rfl⟩ hR (by decide) ⟨Nat.zero_le _, Nat.zero_le _⟩ rfl hl.1 rfl (Nat.le_of_ble_eq_true rfl) dX0_least_24) ?_
        refine W.eq (g2 := F0 m 27 ls [.int (iI (if mi < v then 0 else mi - v)), .ref (ad (2000 + (ho + 1).toNat))]) (by rw [mxq]) ?_
        refine cl_qf (v := Y (2000 + (ho + 1).toNat) (if mi < v then 0 else mi - v)) (k := ho + 1) hCK hG (by omega) (by omega) rfl dX0_least_27 ?_
        obtain ⟨re, h_re⟩ : ∃ x : Int, x = Y (2000 + (ho + 1).toNat) (if mi < v then 0 else mi - v) := ⟨_, rfl⟩
        refine W.eq (g2 := F0 m 28 ls [.int (iI re)]) (by subst h_re; rfl) ?_
        have e_re : re = Lw I F (ho + 1) (if mi < v then 0 else mi - v) := by rw [h_re]; exact hq _ hix.1 hix.2
        have b_re := hLb (ho + 1) (if mi < v then 0 else mi - v) (by omega)
        rw [← e_re] at b_re
        have b_qu := queasyS_bd (per := F 43) (hei := F 42) (own := I 44) (h := ho) v (a42 _ (by omega) (by omega))
        refine lv_istore (lv' := [(5, .int (iI re)), (4, .int (iI v)), (3, .int (iI x)), (0, .ref (ad 0)), (1, .int (iI ho)), (2, .int (iI mi))]) hx hb dX0_least_28 hl (by decide) rfl (fun ls hl => ?_)
        refine lv_iload hx hb dX0_least_30 (lv_at hl 0 rfl) ?_
        refine r_iconst hx hb dX0_least_32 ?_
        refine r_icmp_eq (tgt := 66) hx hb dX0_least_33 (by decide) (by omega) (by decide) (fun c5 => ?_) (fun c5 => ?_)
        · refine lv_iinc (v := iI (v + 1)) (lv' := [(4, .int (iI (v + 1))), (5, .int (iI re)), (3, .int (iI x)), (0, .ref (ad 0)), (1, .int (iI ho)), (2, .int (iI mi))]) hx hb dX0_least_66 hl (k := 1) rfl (iI_add _ _) (by decide) rfl (fun ls hl => ?_)
          refine lv_goto (tgt := 5) hx hb dX0_least_69 (by decide) ?_
          exact ih2 x (v + 1) (by omega) (by rw [foldB_s _ _ hv0, ← ex, ← e_re]; unfold stpB; rw [if_neg (by omega)]) (by omega) (by omega) _ (lv_sub hl [0, 2, 3, 4, 5] rfl)
        · refine lv_iload_n hx hb dX0_least_36 rfl (lv_at hl 2 rfl) ?_
          refine r_iconst hx hb dX0_least_37 ?_
          refine r_icmp_eq (tgt := 55) hx hb dX0_least_38 (by decide) (by omega) (by decide) (fun c6 => ?_) (fun c6 => ?_)
          · refine lv_iload hx hb dX0_least_55 (lv_at hl 0 rfl) ?_
            refine lv_aload_n hx hb dX0_least_57 rfl (lv_at hl 3 rfl) ?_
            refine lv_iload_n hx hb dX0_least_58 rfl (lv_at hl 4 rfl) ?_
            refine lv_iload hx hb dX0_least_59 (lv_at hl 1 rfl) ?_
            refine s_calli (j_runV (n := 2) (C := RX0) (b := ad 0) (rest := [.int (iI re)]) (as := [.int (iI ho), .int (iI v)]) hx hb hml hown hts (cqueasy l adK adV st D E A ad nv I F S Y L ho v (by omega) (by omega) gw0) GB.blind (GB.at hK hG hE hS) (g_rec (r := 0) (ci := 0) hK hG (Or.inl (by decide)) rfl cC_0) q974 q976 qs32 q68 q977 (by decide +kernel) ⟨rfl, rfl⟩ hR (by decide) ⟨Nat.zero_le _, Nat.zero_le _⟩ rfl hl.1 rfl (Nat.le_of_ble_eq_true rfl) dX0_least_61) ?_
            refine r_iadd hx hb dX0_least_64 ?_
            refine lv_istore_n (lv' := [(3, .int (iI (re + (queasyS (F 43) (F 42) (I 44) ho v)))), (5, .int (iI re)), (4, .int (iI v)), (0, .ref (ad 0)), (1, .int (iI ho)), (2, .int (iI mi))]) hx hb dX0_least_65 rfl hl (by decide) rfl (fun ls hl => ?_)
            refine lv_iinc (v := iI (v + 1)) (lv' := [(4, .int (iI (v + 1))), (3, .int (iI (re + (queasyS (F 43) (F 42) (I 44) ho v)))), (5, .int (iI re)), (0, .ref (ad 0)), (1, .int (iI ho)), (2, .int (iI mi))]) hx hb dX0_least_66 hl (k := 2) rfl (iI_add _ _) (by decide) rfl (fun ls hl => ?_)
            refine lv_goto (tgt := 5) hx hb dX0_least_69 (by decide) ?_
            exact ih2 (re + (queasyS (F 43) (F 42) (I 44) ho v)) (v + 1) (by omega) (by rw [foldB_s _ _ hv0, ← ex, ← e_re]; unfold stpB; rw [if_pos (by omega)]) (by omega) (by omega) _ (lv_sub hl [0, 1, 3, 4, 5] rfl)
          · refine lv_iload hx hb dX0_least_41 (lv_at hl 0 rfl) ?_
            refine lv_aload_n hx hb dX0_least_43 rfl (lv_at hl 3 rfl) ?_
            refine lv_iload_n hx hb dX0_least_44 rfl (lv_at hl 4 rfl) ?_
            refine lv_iload hx hb dX0_least_45 (lv_at hl 1 rfl) ?_
            refine s_calli (j_runV (n := 2) (C := RX0) (b := ad 0) (rest := [.int (iI re)]) (as := [.int (iI ho), .int (iI v)]) hx hb hml hown hts (cqueasy l adK adV st D E A ad nv I F S Y L ho v (by omega) (by omega) gw0) GB.blind (GB.at hK hG hE hS) (g_rec (r := 0) (ci := 0) hK hG (Or.inl (by decide)) rfl cC_0) q974 q976 qs32 q68 q977 (by decide +kernel) ⟨rfl, rfl⟩ hR (by decide) ⟨Nat.zero_le _, Nat.zero_le _⟩ rfl hl.1 rfl (Nat.le_of_ble_eq_true rfl) dX0_least_47) ?_
            refine r_iadd hx hb dX0_least_50 ?_
            refine lv_iload_n hx hb dX0_least_51 rfl (lv_at hl 2 rfl) ?_
            refine r_icmp_ge (tgt := 66) hx hb dX0_least_52 (by decide) (by omega) (by omega) (fun c7 => ?_) (fun c7 => ?_)
            · refine lv_iinc (v := iI (v + 1)) (lv' := [(4, .int (iI (v + 1))), (5, .int (iI re)), (3, .int (iI x)), (0, .ref (ad 0)), (1, .int (iI ho)), (2, .int (iI mi))]) hx hb dX0_least_66 hl (k := 1) rfl (iI_add _ _) (by decide) rfl (fun ls hl => ?_)
              refine lv_goto (tgt := 5) hx hb dX0_least_69 (by decide) ?_
              exact ih2 x (v + 1) (by omega) (by rw [foldB_s _ _ hv0, ← ex, ← e_re]; unfold stpB; rw [if_neg (by omega)]) (by omega) (by omega) _ (lv_sub hl [0, 2, 3, 4, 5] rfl)
            · refine lv_iload hx hb dX0_least_55 (lv_at hl 0 rfl) ?_
              refine lv_aload_n hx hb dX0_least_57 rfl (lv_at hl 3 rfl) ?_
              refine lv_iload_n hx hb dX0_least_58 rfl (lv_at hl 4 rfl) ?_
              refine lv_iload hx hb dX0_least_59 (lv_at hl 1 rfl) ?_
              refine s_calli (j_runV (n := 2) (C := RX0) (b := ad 0) (rest := [.int (iI re)]) (as := [.int (iI ho), .int (iI v)]) hx hb hml hown hts (cqueasy l adK adV st D E A ad nv I F S Y L ho v (by omega) (by omega) gw0) GB.blind (GB.at hK hG hE hS) (g_rec (r := 0) (ci := 0) hK hG (Or.inl (by decide)) rfl cC_0) q974 q976 qs32 q68 q977 (by decide +kernel) ⟨rfl, rfl⟩ hR (by decide) ⟨Nat.zero_le _, Nat.zero_le _⟩ rfl hl.1 rfl (Nat.le_of_ble_eq_true rfl) dX0_least_61) ?_
              refine r_iadd hx hb dX0_least_64 ?_
              refine lv_istore_n (lv' := [(3, .int (iI (re + (queasyS (F 43) (F 42) (I 44) ho v)))), (5, .int (iI re)), (4, .int (iI v)), (0, .ref (ad 0)), (1, .int (iI ho)), (2, .int (iI mi))]) hx hb dX0_least_65 rfl hl (by decide) rfl (fun ls hl => ?_)
              refine lv_iinc (v := iI (v + 1)) (lv' := [(4, .int (iI (v + 1))), (3, .int (iI (re + (queasyS (F 43) (F 42) (I 44) ho v)))), (5, .int (iI re)), (0, .ref (ad 0)), (1, .int (iI ho)), (2, .int (iI mi))]) hx hb dX0_least_66 hl (k := 2) rfl (iI_add _ _) (by decide) rfl (fun ls hl => ?_)
              refine lv_goto (tgt := 5) hx hb dX0_least_69 (by decide) ?_
              exact ih2 (re + (queasyS (F 43) (F 42) (I 44) ho v)) (v + 1) (by omega) (by rw [foldB_s _ _ hv0, ← ex, ← e_re]; unfold stpB; rw [if_pos (by omega)]) (by omega) (by omega) _ (lv_sub hl [0, 1, 3, 4, 5] rfl)
  exact loop5_1 ((4 - 0 : Int).toNat + 1) (-1) 0 (by omega) rfl (by omega) (by omega) _ (lv_sub hl [0, 1, 2, 3, 4] rfl)
theorem dX0_ways_0 : decode cX0_ways 0 = .ok (.iconst 0, 1) := by decide +kernel
theorem dX0_ways_1 : decode cX0_ways 1 = .ok (.istore_n 2, 1) := by decide +kernel
theorem dX0_ways_2 : decode cX0_ways 2 = .ok (.iload_n 2, 1) := by decide +kernel
theorem dX0_ways_3 : decode cX0_ways 3 = .ok (.iload_n 1, 1) := by decide +kernel
theorem dX0_ways_4 : decode cX0_ways 4 = .ok (.if_icmp .gt 29, 3) := by decide +kernel
theorem dX0_ways_7 : decode cX0_ways 7 = .ok (.aload_n 0, 1) := by decide +kernel
theorem dX0_ways_8 : decode cX0_ways 8 = .ok (.getfield 86, 3) := by decide +kernel
theorem dX0_ways_11 : decode cX0_ways 11 = .ok (.aload_n 0, 1) := by decide +kernel
theorem dX0_ways_12 : decode cX0_ways 12 = .ok (.getfield 321, 3) := by decide +kernel
theorem dX0_ways_15 : decode cX0_ways 15 = .ok (.aaload, 1) := by decide +kernel
theorem dX0_ways_16 : decode cX0_ways 16 = .ok (.iload_n 2, 1) := by decide +kernel
theorem dX0_ways_17 : decode cX0_ways 17 = .ok (.iload_n 2, 1) := by decide +kernel
theorem dX0_ways_18 : decode cX0_ways 18 = .ok (.ifCond .ne 7, 3) := by decide +kernel
theorem dX0_ways_21 : decode cX0_ways 21 = .ok (.iconst 0, 1) := by decide +kernel
theorem dX0_ways_22 : decode cX0_ways 22 = .ok (.goto 4, 3) := by decide +kernel
theorem dX0_ways_25 : decode cX0_ways 25 = .ok (.iconst (-1), 1) := by decide +kernel
theorem dX0_ways_26 : decode cX0_ways 26 = .ok (.iastore, 1) := by decide +kernel
theorem dX0_ways_27 : decode cX0_ways 27 = .ok (.iinc 2 1, 3) := by decide +kernel
theorem dX0_ways_30 : decode cX0_ways 30 = .ok (.goto (-28), 3) := by decide +kernel
theorem dX0_ways_33 : decode cX0_ways 33 = .ok (.aload_n 0, 1) := by decide +kernel
theorem dX0_ways_34 : decode cX0_ways 34 = .ok (.getfield 321, 3) := by decide +kernel
theorem dX0_ways_37 : decode cX0_ways 37 = .ok (.iconst 1, 1) := by decide +kernel
theorem dX0_ways_38 : decode cX0_ways 38 = .ok (.isub, 1) := by decide +kernel
theorem dX0_ways_39 : decode cX0_ways 39 = .ok (.istore_n 2, 1) := by decide +kernel
theorem dX0_ways_40 : decode cX0_ways 40 = .ok (.iload_n 2, 1) := by decide +kernel
theorem dX0_ways_41 : decode cX0_ways 41 = .ok (.ifCond .lt 36, 3) := by decide +kernel
theorem dX0_ways_44 : decode cX0_ways 44 = .ok (.iconst 0, 1) := by decide +kernel
theorem dX0_ways_45 : decode cX0_ways 45 = .ok (.istore_n 3, 1) := by decide +kernel
theorem dX0_ways_46 : decode cX0_ways 46 = .ok (.iload_n 3, 1) := by decide +kernel
theorem dX0_ways_47 : decode cX0_ways 47 = .ok (.iload_n 1, 1) := by decide +kernel
theorem dX0_ways_48 : decode cX0_ways 48 = .ok (.if_icmp .gt 23, 3) := by decide +kernel
theorem dX0_ways_51 : decode cX0_ways 51 = .ok (.aload_n 0, 1) := by decide +kernel
theorem dX0_ways_52 : decode cX0_ways 52 = .ok (.getfield 86, 3) := by decide +kernel
theorem dX0_ways_55 : decode cX0_ways 55 = .ok (.iload_n 2, 1) := by decide +kernel
theorem dX0_ways_56 : decode cX0_ways 56 = .ok (.aaload, 1) := by decide +kernel
theorem dX0_ways_57 : decode cX0_ways 57 = .ok (.iload_n 3, 1) := by decide +kernel
theorem dX0_ways_58 : decode cX0_ways 58 = .ok (.aload_n 0, 1) := by decide +kernel
theorem dX0_ways_59 : decode cX0_ways 59 = .ok (.iload_n 2, 1) := by decide +kernel
theorem dX0_ways_60 : decode cX0_ways 60 = .ok (.iload_n 3, 1) := by decide +kernel
theorem dX0_ways_61 : decode cX0_ways 61 = .ok (.invokevirtual 324, 3) := by decide +kernel
theorem dX0_ways_64 : decode cX0_ways 64 = .ok (.iastore, 1) := by decide +kernel
theorem dX0_ways_65 : decode cX0_ways 65 = .ok (.iinc 3 1, 3) := by decide +kernel
theorem dX0_ways_68 : decode cX0_ways 68 = .ok (.goto (-22), 3) := by decide +kernel
theorem dX0_ways_71 : decode cX0_ways 71 = .ok (.iinc 2 (-1), 3) := by decide +kernel
theorem dX0_ways_74 : decode cX0_ways 74 = .ok (.goto (-34), 3) := by decide +kernel
theorem dX0_ways_77 : decode cX0_ways 77 = .ok (.return_, 1) := by decide +kernel
set_option maxHeartbeats 4000000 in
theorem cways (l : Launch) (adK adV st : Nat → Nat) (D : va_G) (E : Nat → ClassId) (A : Nat → Prop) (ad nv : Nat → Nat) (I : Nat → Int) (F : Nat → Int → Int) (S : Nat → Nat → Int) (Y : Nat → Int → Int) (L : Nat → Nat) (mi : Int) (hm : 0 ≤ mi ∧ mi ≤ 36) (gw0 : gWay I F) : CM l yX0_ways cX0_ways 4 none (mrm 2) adK adV st D E A ad nv [.ref (ad 0), .int (iI mi)] I F S Y L (CQv D E A ad nv L (fun I1 F1 S1 Y1 => I = I1 ∧ F = F1 ∧ S = S1 ∧ (∀ r, r < 2000 ∨ 2013 ≤ r → Y1 r = Y r) ∧ ∀ i, 0 ≤ i → i ≤ I 41 → ∀ j, 0 ≤ j → j ≤ mi → Y1 (2000 + i.toNat) j = Lw I F i j)) := by
  refine c_start (by decide) rfl (Nat.le_of_ble_eq_true rfl) ?_
  intro p e R s m args below meth c ls Q hR hQ hCK hml hr hlk hG hS hE hl
  have hx := hCK.1
  have hb := hCK.2.1
  have hown := hCK.2.2.1
  have hts := hCK.2.2.2.1
  have hK := hCK.2.2.2.2
  have hl : lv_has ls 4 [(0, .ref (ad 0)), (1, .int (iI mi))] := hl
  obtain ⟨i41, i44, a42, a43⟩ := id gw0
  refine r_iconst hx hb dX0_ways_0 ?_
  refine lv_istore_n (lv' := [(2, .int (iI 0)), (0, .ref (ad 0)), (1, .int (iI mi))]) hx hb dX0_ways_1 rfl hl (by decide) rfl (fun ls hl => ?_)
  have loop2_1 : ∀ (n : Nat) (mm : Int) (Y1 : Nat → Int → Int), mi + 1 - mm < (n : Int) → 0 ≤ mm → mm ≤ mi + 1 → (∀ r, r < 2000 ∨ 2013 ≤ r → Y1 r = Y r) → (∀ j, 0 ≤ j → j < mm → Y1 (2000 + (I 41).toNat) j = Lw I F (I 41) j) → ∀ (H : Heap) (locs : List Loc) (ls : Array Slot), CW D E A ad nv I F S Y1 L H → va_S A s.heap H locs → lv_has ls 4 [(2, .int (iI mm)), (0, .ref (ad 0)), (1, .int (iI mi))] → W p l e R s m args below meth c H locs 0 0 Q (F0 m 2 ls []) := by
    intro n
    induction n with
    | zero => intro mm Y1 hn3 hm0 hm1 hkY hg; exfalso; omega
    | succ n ih2 =>
      intro mm Y1 hn3 hm0 hm1 hkY hg H locs ls hG hS hl
      refine lv_iload_n hx hb dX0_ways_2 rfl (lv_at hl 0 rfl) ?_
      refine lv_iload_n hx hb dX0_ways_3 rfl (lv_at hl 2 rfl) ?_
      refine r_icmp_gt (tgt := 33) hx hb dX0_ways_4 (by decide) (by omega) (by omega) (fun c4 => ?_) (fun c4 => ?_)
      · refine lv_aload_n hx hb dX0_ways_33 rfl (lv_at hl 1 rfl) ?_
        refine cg_X0_321 (v := I 41) hCK hG rfl dX0_ways_34 ?_
        refine r_iconst hx hb dX0_ways_37 ?_
        refine r_isub hx hb dX0_ways_38 ?_
        refine lv_istore_n (lv' := [(2, .int (iI ((I 41) - 1))), (0, .ref (ad 0)), (1, .int (iI mi))]) hx hb dX0_ways_39 rfl hl (by decide) rfl (fun ls hl => ?_)
        have loop40_5 : ∀ (n : Nat) (ho : Int) (Y1 : Nat → Int → Int), ho + 1 < (n : Int) → -1 ≤ ho → ho < I 41 → (∀ r, r < 2000 ∨ 2013 ≤ r → Y1 r = Y r) → (∀ i, ho < i → i ≤ I 41 → ∀ j, 0 ≤ j → j ≤ mi → Y1 (2000 + i.toNat) j = Lw I F i j) → ∀ (H : Heap) (locs : List Loc) (ls : Array Slot), CW D E A ad nv I F S Y1 L H → va_S A s.heap H locs → lv_has ls 4 [(2, .int (iI ho)), (0, .ref (ad 0)), (1, .int (iI mi))] → W p l e R s m args below meth c H locs 0 0 Q (F0 m 40 ls []) := by
          intro n
          induction n with
          | zero => intro ho Y1 hn7 hh0 hh1 hkY hg; exfalso; omega
          | succ n ih6 =>
            intro ho Y1 hn7 hh0 hh1 hkY hg H locs ls hG hS hl
            refine lv_iload_n hx hb dX0_ways_40 rfl (lv_at hl 0 rfl) ?_
            refine r_if_lt (tgt := 77) hx hb dX0_ways_41 (by decide) (by omega) (fun c8 => ?_) (fun c8 => ?_)
            · exact c_vret hCK hQ hr hlk hG hS dX0_ways_77 (⟨rfl, rfl, rfl, hkY, fun i i0 i1 j j0 j1 => hg i (by omega) i1 j j0 j1⟩)
            · refine r_iconst hx hb dX0_ways_44 ?_
              refine lv_istore_n (lv' := [(3, .int (iI 0)), (2, .int (iI ho)), (0, .ref (ad 0)), (1, .int (iI mi))]) hx hb dX0_ways_45 rfl hl (by decide) rfl (fun ls hl => ?_)
              have loop46_9 : ∀ (n : Nat) (mm : Int) (Y1 : Nat → Int → Int), mi + 1 - mm < (n : Int) → 0 ≤ mm → mm ≤ mi + 1 → (∀ r, r < 2000 ∨ 2013 ≤ r → Y1 r = Y r) → (∀ i, ho < i → i ≤ I 41 → ∀ j, 0 ≤ j → j ≤ mi → Y1 (2000 + i.toNat) j = Lw I F i j) → (∀ j, 0 ≤ j → j < mm → Y1 (2000 + ho.toNat) j = Lw I F ho j) → ∀ (H : Heap) (locs : List Loc) (ls : Array Slot), CW D E A ad nv I F S Y1 L H → va_S A s.heap H locs → lv_has ls 4 [(3, .int (iI mm)), (2, .int (iI ho)), (0, .ref (ad 0)), (1, .int (iI mi))] → W p l e R s m args below meth c H locs 0 0 Q (F0 m 46 ls []) := by
                intro n
                induction n with
                | zero => intro mm Y1 hn11 hm0 hm1 hkY hg hgC; exfalso; omega
                | succ n ih10 =>
                  intro mm Y1 hn11 hm0 hm1 hkY hg hgC H locs ls hG hS hl
                  refine lv_iload_n hx hb dX0_ways_46 rfl (lv_at hl 0 rfl) ?_
                  refine lv_iload_n hx hb dX0_ways_47 rfl (lv_at hl 3 rfl) ?_
                  refine r_icmp_gt (tgt := 71) hx hb dX0_ways_48 (by decide) (by omega) (by omega) (fun c12 => ?_) (fun c12 => ?_)
                  · refine lv_iinc (v := iI (ho + (-1))) (lv' := [(2, .int (iI (ho + (-1)))), (3, .int (iI mm)), (0, .ref (ad 0)), (1, .int (iI mi))]) hx hb dX0_ways_71 hl (k := 1) rfl (iI_add _ _) (by decide) rfl (fun ls hl => ?_)
                    refine lv_goto (tgt := 40) hx hb dX0_ways_74 (by decide) ?_
                    exact ih6 (ho + (-1)) Y1 (by omega) (by omega) (by omega) hkY (fun i i0 i1 j j0 j1 => by by_cases hi : i = ho; subst hi; exact hgC j j0 (by omega); exact hg i (by omega) i1 j j0 j1) _ _ _ hG hS (lv_sub hl [0, 2, 3] rfl)
                  · refine lv_aload_n hx hb dX0_ways_51 rfl (lv_at hl 2 rfl) ?_
                    refine cg_X0_86 hCK hG dX0_ways_52 ?_
                    refine lv_iload_n hx hb dX0_ways_55 rfl (lv_at hl 1 rfl) ?_
                    refine cl_10 (z := ho) hCK hG (by omega) dX0_ways_56 ?_
                    refine lv_iload_n hx hb dX0_ways_57 rfl (lv_at hl 0 rfl) ?_
                    refine lv_aload_n hx hb dX0_ways_58 rfl (lv_at hl 2 rfl) ?_
                    refine lv_iload_n hx hb dX0_ways_59 rfl (lv_at hl 1 rfl) ?_
                    refine lv_iload_n hx hb dX0_ways_60 rfl (lv_at hl 0 rfl) ?_
                    refine s_calli (j_runV (n := 2) (C := RX0) (b := ad 0) (rest := [.int (iI mm), .ref (ad (2000 + ho.toNat))]) (as := [.int (iI ho), .int (iI mm)]) hx hb hml hown hts (cleast l adK adV st D E A ad nv I F S Y1 L ho mm (by omega) (by omega) gw0 (fun j j0 j1 => hg (ho + 1) (by omega) (by omega) j j0 (by omega))) GB.blind (GB.at hK hG hE hS) (g_rec (r := 0) (ci := 0) hK hG (Or.inl (by decide)) rfl cC_0) q969 q971 qs31 q68 q972 (by decide +kernel) ⟨rfl, rfl⟩ hR (by decide) ⟨Nat.zero_le _, Nat.zero_le _⟩ rfl hl.1 rfl (Nat.le_of_ble_eq_true rfl) dX0_ways_61) ?_
                    refine cs_qf (k := ho) (z := mm) (v := Lw I F ho mm) hCK hG hS (by omega) (by omega) dX0_ways_64 (fun H locs hG hS => ?_)
                    have hG : CW D E A ad nv I F S (va_up Y1 (2000 + ho.toNat) (updZ (Y1 (2000 + ho.toNat)) mm (Lw I F ho mm))) L H := hG
                    refine lv_iinc (v := iI (mm + 1)) (lv' := [(3, .int (iI (mm + 1))), (2, .int (iI ho)), (0, .ref (ad 0)), (1, .int (iI mi))]) hx hb dX0_ways_65 hl (k := 0) rfl (iI_add _ _) (by decide) rfl (fun ls hl => ?_)
                    refine lv_goto (tgt := 46) hx hb dX0_ways_68 (by decide) ?_
                    exact ih10 (mm + 1) (va_up Y1 (2000 + ho.toNat) (updZ (Y1 (2000 + ho.toNat)) mm (Lw I F ho mm))) (by omega) (by omega) (by omega) (fun r hr => by rw [va_up_ne _ _ (by omega)]; exact hkY r hr) (fun i i0 i1 j j0 j1 => by rw [va_up_ne _ _ (by omega)]; exact hg i i0 i1 j j0 j1) (fun j j0 j1 => by rw [va_up_self]; by_cases hj : j = mm; subst hj; rw [updZ_s]; rw [updZ_n hj]; exact hgC j j0 (by omega)) _ _ _ hG hS (lv_sub hl [0, 1, 2, 3] rfl)
              exact loop46_9 ((mi + 1 - 0 : Int).toNat + 1) 0 Y1 (by omega) (by omega) (by omega) hkY hg (fun j j0 j1 => by omega) _ _ _ hG hS (lv_sub hl [0, 1, 2, 3] rfl)
        exact loop40_5 ((((I 41) - 1) + 1 : Int).toNat + 1) ((I 41) - 1) Y1 (by omega) (by omega) (by omega) hkY (fun i i0 i1 j j0 j1 => by rw [show i = I 41 by omega]; exact hg j j0 (by omega)) _ _ _ hG hS (lv_sub hl [0, 1, 2] rfl)
      · refine lv_aload_n hx hb dX0_ways_7 rfl (lv_at hl 1 rfl) ?_
        refine cg_X0_86 hCK hG dX0_ways_8 ?_
        refine lv_aload_n hx hb dX0_ways_11 rfl (lv_at hl 1 rfl) ?_
        refine cg_X0_321 (v := I 41) hCK hG rfl dX0_ways_12 ?_
        refine cl_10 (z := I 41) hCK hG (by omega) dX0_ways_15 ?_
        refine lv_iload_n hx hb dX0_ways_16 rfl (lv_at hl 0 rfl) ?_
        refine lv_iload_n hx hb dX0_ways_17 rfl (lv_at hl 0 rfl) ?_
        refine r_if_ne (tgt := 25) hx hb dX0_ways_18 (by decide) (by omega) (fun c13 => ?_) (fun c13 => ?_)
        · refine r_iconst hx hb dX0_ways_25 ?_
          refine cs_qf (k := I 41) (z := mm) (v := -1) hCK hG hS (by omega) (by omega) dX0_ways_26 (fun H locs hG hS => ?_)
          have hG : CW D E A ad nv I F S (va_up Y1 (2000 + (I 41).toNat) (updZ (Y1 (2000 + (I 41).toNat)) mm (-1))) L H := hG
          refine lv_iinc (v := iI (mm + 1)) (lv' := [(2, .int (iI (mm + 1))), (0, .ref (ad 0)), (1, .int (iI mi))]) hx hb dX0_ways_27 hl (k := 0) rfl (iI_add _ _) (by decide) rfl (fun ls hl => ?_)
          refine lv_goto (tgt := 2) hx hb dX0_ways_30 (by decide) ?_
          exact ih2 (mm + 1) (va_up Y1 (2000 + (I 41).toNat) (updZ (Y1 (2000 + (I 41).toNat)) mm (-1))) (by omega) (by omega) (by omega) (fun r hr => by rw [va_up_ne _ _ (by omega)]; exact hkY r hr) (fun j j0 j1 => by rw [va_up_self]; by_cases hj : j = mm; subst hj; rw [updZ_s]; unfold Lw; rw [show (I 41 - I 41).toNat = 0 by omega]; show _ = if j = 0 then 0 else -1; rw [if_neg (by omega)]; rw [updZ_n hj]; exact hg j j0 (by omega)) _ _ _ hG hS (lv_sub hl [0, 1, 2] rfl)
        · refine r_iconst hx hb dX0_ways_21 ?_
          refine lv_goto (tgt := 26) hx hb dX0_ways_22 (by decide) ?_
          refine cs_qf (k := I 41) (z := mm) (v := 0) hCK hG hS (by omega) (by omega) dX0_ways_26 (fun H locs hG hS => ?_)
          have hG : CW D E A ad nv I F S (va_up Y1 (2000 + (I 41).toNat) (updZ (Y1 (2000 + (I 41).toNat)) mm 0)) L H := hG
          refine lv_iinc (v := iI (mm + 1)) (lv' := [(2, .int (iI (mm + 1))), (0, .ref (ad 0)), (1, .int (iI mi))]) hx hb dX0_ways_27 hl (k := 0) rfl (iI_add _ _) (by decide) rfl (fun ls hl => ?_)
          refine lv_goto (tgt := 2) hx hb dX0_ways_30 (by decide) ?_
          exact ih2 (mm + 1) (va_up Y1 (2000 + (I 41).toNat) (updZ (Y1 (2000 + (I 41).toNat)) mm 0)) (by omega) (by omega) (by omega) (fun r hr => by rw [va_up_ne _ _ (by omega)]; exact hkY r hr) (fun j j0 j1 => by rw [va_up_self]; by_cases hj : j = mm; subst hj; rw [updZ_s]; unfold Lw; rw [show (I 41 - I 41).toNat = 0 by omega]; show _ = if j = 0 then 0 else -1; rw [if_pos (by omega)]; rw [updZ_n hj]; exact hg j j0 (by omega)) _ _ _ hG hS (lv_sub hl [0, 1, 2] rfl)
  exact loop2_1 ((mi + 1 - 0 : Int).toNat + 1) 0 Y (by omega) (by omega) (by omega) (fun r hr => rfl) (fun j j0 j1 => by omega) _ _ _ hG hS (lv_sub hl [0, 1, 2] rfl)
