/-! THE COMPONENT: lists, small static methods -/
set_option maxRecDepth 100000
theorem dJ6_checkIndex_0 : decode cJ6_checkIndex 0 = .ok (.iload_n 0, 1) := by decide +kernel
theorem dJ6_checkIndex_1 : decode cJ6_checkIndex 1 = .ok (.iload_n 1, 1) := by decide +kernel
theorem dJ6_checkIndex_2 : decode cJ6_checkIndex 2 = .ok (.aconst_null, 1) := by decide +kernel
theorem dJ6_checkIndex_3 : decode cJ6_checkIndex 3 = .ok (.invokestatic 105, 3) := by decide +kernel
theorem dJ6_checkIndex_6 : decode cJ6_checkIndex 6 = .ok (.ireturn, 1) := by decide +kernel
set_option maxHeartbeats 4000000 in
theorem met_ochk (l : Launch) (k n : Int) (hk : 0 ≤ k ∧ k < n) (hn : n ≤ 2147483647) : SM l yJ6_checkIndex cJ6_checkIndex 2 (some .int) (mrm 1) [.int (iI k), .int (iI n)] (vp_Si (fun r => r = iI (k))) := by
  refine s_start (by decide) rfl (Nat.le_of_ble_eq_true rfl) ?_
  intro p e R s m args below meth c ls Q hR hQ hC hml hr hlk hl
  have hx := hC.1
  have hb := hC.2.1
  have hown := hC.2.2.1
  have hts := hC.2.2.2
  have hl : lv_has ls 2 [(0, .int (iI k)), (1, .int (iI n))] := hl
  refine lv_iload_n hx hb dJ6_checkIndex_0 rfl (lv_at hl 0 rfl) ?_
  refine lv_iload_n hx hb dJ6_checkIndex_1 rfl (lv_at hl 1 rfl) ?_
  refine lv_null hx hb dJ6_checkIndex_2 ?_
  refine s_calli (j_runS (n := 3) (rest := []) (as := [.int (iI k), .int (iI n), .null]) hx hb hml hown hts ((met_pchkN l k n  (by omega) (by omega)).jm) (fun _ _ _ _ _ => trivial) (fun _ _ _ => trivial) q626 q485 q81 q486 (by decide +kernel) ⟨rfl, rfl⟩ hR (by decide) ⟨Nat.zero_le _, Nat.zero_le _⟩ rfl hl.1 rfl (Nat.le_of_ble_eq_true rfl) dJ6_checkIndex_3) ?_
  exact s_iret hC hr hlk hQ dJ6_checkIndex_6 (rfl)
theorem dJ2_size_0 : decode cJ2_size 0 = .ok (.aload_n 0, 1) := by decide +kernel
theorem dJ2_size_1 : decode cJ2_size 1 = .ok (.getfield 48, 3) := by decide +kernel
theorem dJ2_size_4 : decode cJ2_size 4 = .ok (.ireturn, 1) := by decide +kernel
set_option maxHeartbeats 4000000 in
theorem met_lsize (l : Launch) (adK adV st : Nat → Nat) (D : va_G) (E : Nat → ClassId) (A V : Nat → Prop) (ad : Nat → Nat) (C : Nat → va_E) (rl re : Nat) (mo n : Int) (hV : V rl) (he : C rl = .inr (10, [.int (iI mo), .ref (ad re), .int (iI n)])) : JM l yJ2_size cJ2_size 1 (some .int) (mrm 0) (GB adK adV st D E A V ad C) [.ref (ad rl)] (vp_Si (fun r => r = iI (n))) := by
  refine j_start (by decide) rfl (Nat.le_of_ble_eq_true rfl) ?_
  intro p e R s m args below meth c ls Q hR hQ hC hml hr hlk hB hl
  have hx := hC.1
  have hb := hC.2.1
  have hown := hC.2.2.1
  have hts := hC.2.2.2
  have hS : va_S A s.heap s.heap [] := va_S.rf
  have hK := hB.1
  have hG := hB.2.1
  have hE := hB.2.2
  have hCK : CK p m c _ s args _ D E := ⟨hx, hb, hown, hts, hK⟩
  have hl : lv_has ls 1 [(0, .ref (ad rl))] := hl
  refine lv_aload_n hx hb dJ2_size_0 rfl (lv_at hl 0 rfl) ?_
  refine g_get hCK hG rl hV he (ci := 10) rfl in_J2 2 (by decide) q117 rfl rfl dJ2_size_1 ?_
  exact j_iret hC hr hlk hQ dJ2_size_4 (rfl)
theorem dJ2_elementData_0 : decode cJ2_elementData 0 = .ok (.aload_n 0, 1) := by decide +kernel
theorem dJ2_elementData_1 : decode cJ2_elementData 1 = .ok (.getfield 9, 3) := by decide +kernel
theorem dJ2_elementData_4 : decode cJ2_elementData 4 = .ok (.iload_n 1, 1) := by decide +kernel
theorem dJ2_elementData_5 : decode cJ2_elementData 5 = .ok (.aaload, 1) := by decide +kernel
theorem dJ2_elementData_6 : decode cJ2_elementData 6 = .ok (.areturn, 1) := by decide +kernel
set_option maxHeartbeats 4000000 in
theorem met_ledata (l : Launch) (adK adV st : Nat → Nat) (D : va_G) (E : Nat → ClassId) (A V : Nat → Prop) (ad : Nat → Nat) (C : Nat → va_E) (rl re : Nat) (mo n : Int) (hV : V rl) (he : C rl = .inr (10, [.int (iI mo), .ref (ad re), .int (iI n)])) (i : Int) (cap : Nat) (f : Nat → Option Nat) (hVe : V re) (hce : C re = .inl (E 5, cap, ar f)) (hcap : cap < 2147483648) (hi : 0 ≤ i ∧ i < cap) : JM l yJ2_elementData cJ2_elementData 2 (some (.object "java/lang/Object")) (mrm 0) (GB adK adV st D E A V ad C) [.ref (ad rl), .int (iI i)] (vp_S1 (va_rf (f i.toNat))) := by
  refine j_start (by decide) rfl (Nat.le_of_ble_eq_true rfl) ?_
  intro p e R s m args below meth c ls Q hR hQ hC hml hr hlk hB hl
  have hx := hC.1
  have hb := hC.2.1
  have hown := hC.2.2.1
  have hts := hC.2.2.2
  have hS : va_S A s.heap s.heap [] := va_S.rf
  have hK := hB.1
  have hG := hB.2.1
  have hE := hB.2.2
  have hCK : CK p m c _ s args _ D E := ⟨hx, hb, hown, hts, hK⟩
  have hl : lv_has ls 2 [(0, .ref (ad rl)), (1, .int (iI i))] := hl
  refine lv_aload_n hx hb dJ2_elementData_0 rfl (lv_at hl 0 rfl) ?_
  refine g_get hCK hG rl hV he (ci := 10) rfl in_J2 1 (by decide) q116 rfl rfl dJ2_elementData_1 ?_
  refine lv_iload_n hx hb dJ2_elementData_4 rfl (lv_at hl 1 rfl) ?_
  refine g_ald hCK hG re hVe hce (t := 5) rfl hcap (by omega) rfl dJ2_elementData_5 ?_
  exact j_aret hC hr hlk (Or.inl ⟨_, rfl⟩) (va_rf_or _) hQ dJ2_elementData_6 (rfl)
theorem dJ2_get_0 : decode cJ2_get 0 = .ok (.iload_n 1, 1) := by decide +kernel
theorem dJ2_get_1 : decode cJ2_get 1 = .ok (.aload_n 0, 1) := by decide +kernel
theorem dJ2_get_2 : decode cJ2_get 2 = .ok (.getfield 48, 3) := by decide +kernel
theorem dJ2_get_5 : decode cJ2_get 5 = .ok (.invokestatic 118, 3) := by decide +kernel
theorem dJ2_get_8 : decode cJ2_get 8 = .ok (.pop, 1) := by decide +kernel
theorem dJ2_get_9 : decode cJ2_get 9 = .ok (.aload_n 0, 1) := by decide +kernel
theorem dJ2_get_10 : decode cJ2_get 10 = .ok (.iload_n 1, 1) := by decide +kernel
theorem dJ2_get_11 : decode cJ2_get 11 = .ok (.invokevirtual 123, 3) := by decide +kernel
theorem dJ2_get_14 : decode cJ2_get 14 = .ok (.areturn, 1) := by decide +kernel
set_option maxHeartbeats 4000000 in
theorem met_lget (l : Launch) (adK adV st : Nat → Nat) (D : va_G) (E : Nat → ClassId) (A V : Nat → Prop) (ad : Nat → Nat) (C : Nat → va_E) (rl re : Nat) (mo n : Int) (hV : V rl) (he : C rl = .inr (10, [.int (iI mo), .ref (ad re), .int (iI n)])) (i : Int) (cap : Nat) (f : Nat → Option Nat) (hVe : V re) (hce : C re = .inl (E 5, cap, ar f)) (hcap : cap < 2147483648) (hi : 0 ≤ i ∧ i < n) (hn : n ≤ cap) : JM l yJ2_get cJ2_get 2 (some (.object "java/lang/Object")) (mrm 2) (GB adK adV st D E A V ad C) [.ref (ad rl), .int (iI i)] (vp_S1 (va_rf (f i.toNat))) := by
  refine j_start (by decide) rfl (Nat.le_of_ble_eq_true rfl) ?_
  intro p e R s m args below meth c ls Q hR hQ hC hml hr hlk hB hl
  have hx := hC.1
  have hb := hC.2.1
  have hown := hC.2.2.1
  have hts := hC.2.2.2
  have hS : va_S A s.heap s.heap [] := va_S.rf
  have hK := hB.1
  have hG := hB.2.1
  have hE := hB.2.2
  have hCK : CK p m c _ s args _ D E := ⟨hx, hb, hown, hts, hK⟩
  have hl : lv_has ls 2 [(0, .ref (ad rl)), (1, .int (iI i))] := hl
  refine lv_iload_n hx hb dJ2_get_0 rfl (lv_at hl 1 rfl) ?_
  refine lv_aload_n hx hb dJ2_get_1 rfl (lv_at hl 0 rfl) ?_
  refine g_get hCK hG rl hV he (ci := 10) rfl in_J2 2 (by decide) q117 rfl rfl dJ2_get_2 ?_
  refine s_calli (j_runS (n := 2) (rest := []) (as := [.int (iI i), .int (iI n)]) hx hb hml hown hts ((met_ochk l i n (by omega) (by omega)).jm) (fun _ _ _ _ _ => trivial) (fun _ _ _ => trivial) q623 q624 q80 q625 (by decide +kernel) ⟨rfl, rfl⟩ hR (by decide) ⟨Nat.zero_le _, Nat.zero_le _⟩ rfl hl.1 rfl (Nat.le_of_ble_eq_true rfl) dJ2_get_5) ?_
  refine lv_pop hx hb dJ2_get_8 rfl ?_
  refine lv_aload_n hx hb dJ2_get_9 rfl (lv_at hl 0 rfl) ?_
  refine lv_iload_n hx hb dJ2_get_10 rfl (lv_at hl 1 rfl) ?_
  refine j_callr (j_runV (n := 1) (C := RJ2) (b := ad rl) (rest := []) (as := [.int (iI i)]) hx hb hml hown hts (met_ledata l adK adV st D E A V ad C rl re mo n hV he i cap f hVe hce hcap (by omega)) GB.blind (GB.at hK hG hE hS) (g_rec (r := rl) (ci := 10) hK hG hV rfl he) q627 q628 q629 q71 q630 (by decide +kernel) ⟨rfl, rfl⟩ hR (by decide) ⟨Nat.zero_le _, Nat.zero_le _⟩ rfl hl.1 rfl (Nat.le_of_ble_eq_true rfl) dJ2_get_11) ?_
  exact j_aret hC hr hlk (Or.inl ⟨_, rfl⟩) (va_rf_or _) hQ dJ2_get_14 (rfl)
theorem lsz_11 (l : Launch) (adK adV st : Nat → Nat) (D : va_G) (E : Nat → ClassId) (A : Nat → Prop) (ad nv : Nat → Nat) (I : Nat → Int) (F : Nat → Int → Int) (S : Nat → Nat → Int) (Y : Nat → Int → Int) (L : Nat → Nat) : JM l yJ2_size cJ2_size 1 (some .int) (mrm 0) (CX adK adV st D E A ad nv I F S Y L) [.ref (ad 11)] (vp_Si (fun r => r = iI (I 1))) := met_lsize l adK adV st D E A _ ad _ 11 15 (S 11 0) (I 1) (Or.inl (by decide)) (cC_l (by decide))
theorem lgt_11 (l : Launch) (adK adV st : Nat → Nat) (D : va_G) (E : Nat → ClassId) (A : Nat → Prop) (ad nv : Nat → Nat) (I : Nat → Int) (F : Nat → Int → Int) (S : Nat → Nat → Int) (Y : Nat → Int → Int) (L : Nat → Nat) (i : Int) (hi : 0 ≤ i ∧ i < I 1) (hL : I 1 ≤ ((L 15 : Nat) : Int)) (hc : L 15 < 1000) : JM l yJ2_get cJ2_get 2 (some (.object "java/lang/Object")) (mrm 2) (CX adK adV st D E A ad nv I F S Y L) [.ref (ad 11), .int (iI i)] (vp_S1 (.ref (ad (3000 + i.toNat)))) := by
  have h := met_lget l adK adV st D E A (cV nv F S) ad (cC E ad I F S Y L) 11 15 (S 11 0) (I 1) (Or.inl (by decide)) (cC_l (by decide)) i (L 15) (fun j => if (j : Int) < I 1 then some (ad (3000 + j)) else none) (Or.inl (by decide)) (cC_e (by decide)) (by omega) hi hL
  have e : va_rf (if ((i.toNat : Nat) : Int) < I 1 then some (ad (3000 + i.toNat)) else none) = .ref (ad (3000 + i.toNat)) := by rw [if_pos (by omega)]; rfl
  rw [e] at h
  exact h
theorem lsz_12 (l : Launch) (adK adV st : Nat → Nat) (D : va_G) (E : Nat → ClassId) (A : Nat → Prop) (ad nv : Nat → Nat) (I : Nat → Int) (F : Nat → Int → Int) (S : Nat → Nat → Int) (Y : Nat → Int → Int) (L : Nat → Nat) : JM l yJ2_size cJ2_size 1 (some .int) (mrm 0) (CX adK adV st D E A ad nv I F S Y L) [.ref (ad 12)] (vp_Si (fun r => r = iI (I 4))) := met_lsize l adK adV st D E A _ ad _ 12 16 (S 12 0) (I 4) (Or.inl (by decide)) (cC_l (by decide))
theorem lgt_12 (l : Launch) (adK adV st : Nat → Nat) (D : va_G) (E : Nat → ClassId) (A : Nat → Prop) (ad nv : Nat → Nat) (I : Nat → Int) (F : Nat → Int → Int) (S : Nat → Nat → Int) (Y : Nat → Int → Int) (L : Nat → Nat) (i : Int) (hi : 0 ≤ i ∧ i < I 4) (hL : I 4 ≤ ((L 16 : Nat) : Int)) (hc : L 16 < 1000) : JM l yJ2_get cJ2_get 2 (some (.object "java/lang/Object")) (mrm 2) (CX adK adV st D E A ad nv I F S Y L) [.ref (ad 12), .int (iI i)] (vp_S1 (.ref (ad (3200 + i.toNat)))) := by
  have h := met_lget l adK adV st D E A (cV nv F S) ad (cC E ad I F S Y L) 12 16 (S 12 0) (I 4) (Or.inl (by decide)) (cC_l (by decide)) i (L 16) (fun j => if (j : Int) < I 4 then some (ad (3200 + j)) else none) (Or.inl (by decide)) (cC_e (by decide)) (by omega) hi hL
  have e : va_rf (if ((i.toNat : Nat) : Int) < I 4 then some (ad (3200 + i.toNat)) else none) = .ref (ad (3200 + i.toNat)) := by rw [if_pos (by omega)]; rfl
  rw [e] at h
  exact h
theorem lsz_13 (l : Launch) (adK adV st : Nat → Nat) (D : va_G) (E : Nat → ClassId) (A : Nat → Prop) (ad nv : Nat → Nat) (I : Nat → Int) (F : Nat → Int → Int) (S : Nat → Nat → Int) (Y : Nat → Int → Int) (L : Nat → Nat) : JM l yJ2_size cJ2_size 1 (some .int) (mrm 0) (CX adK adV st D E A ad nv I F S Y L) [.ref (ad 13)] (vp_Si (fun r => r = iI (I 10))) := met_lsize l adK adV st D E A _ ad _ 13 17 (S 13 0) (I 10) (Or.inl (by decide)) (cC_l (by decide))
theorem lgt_13 (l : Launch) (adK adV st : Nat → Nat) (D : va_G) (E : Nat → ClassId) (A : Nat → Prop) (ad nv : Nat → Nat) (I : Nat → Int) (F : Nat → Int → Int) (S : Nat → Nat → Int) (Y : Nat → Int → Int) (L : Nat → Nat) (i : Int) (hi : 0 ≤ i ∧ i < I 10) (hL : I 10 ≤ ((L 17 : Nat) : Int)) (hc : L 17 < 1000) : JM l yJ2_get cJ2_get 2 (some (.object "java/lang/Object")) (mrm 2) (CX adK adV st D E A ad nv I F S Y L) [.ref (ad 13), .int (iI i)] (vp_S1 (.ref (ad (3300 + i.toNat)))) := by
  have h := met_lget l adK adV st D E A (cV nv F S) ad (cC E ad I F S Y L) 13 17 (S 13 0) (I 10) (Or.inl (by decide)) (cC_l (by decide)) i (L 17) (fun j => if (j : Int) < I 10 then some (ad (3300 + j)) else none) (Or.inl (by decide)) (cC_e (by decide)) (by omega) hi hL
  have e : va_rf (if ((i.toNat : Nat) : Int) < I 10 then some (ad (3300 + i.toNat)) else none) = .ref (ad (3300 + i.toNat)) := by rw [if_pos (by omega)]; rfl
  rw [e] at h
  exact h
theorem lsz_14 (l : Launch) (adK adV st : Nat → Nat) (D : va_G) (E : Nat → ClassId) (A : Nat → Prop) (ad nv : Nat → Nat) (I : Nat → Int) (F : Nat → Int → Int) (S : Nat → Nat → Int) (Y : Nat → Int → Int) (L : Nat → Nat) : JM l yJ2_size cJ2_size 1 (some .int) (mrm 0) (CX adK adV st D E A ad nv I F S Y L) [.ref (ad 14)] (vp_Si (fun r => r = iI (I 18))) := met_lsize l adK adV st D E A _ ad _ 14 18 (S 14 0) (I 18) (Or.inl (by decide)) (cC_l (by decide))
theorem lgt_14 (l : Launch) (adK adV st : Nat → Nat) (D : va_G) (E : Nat → ClassId) (A : Nat → Prop) (ad nv : Nat → Nat) (I : Nat → Int) (F : Nat → Int → Int) (S : Nat → Nat → Int) (Y : Nat → Int → Int) (L : Nat → Nat) (i : Int) (hi : 0 ≤ i ∧ i < I 18) (hL : I 18 ≤ ((L 18 : Nat) : Int)) (hc : L 18 < 1000) : JM l yJ2_get cJ2_get 2 (some (.object "java/lang/Object")) (mrm 2) (CX adK adV st D E A ad nv I F S Y L) [.ref (ad 14), .int (iI i)] (vp_S1 (.ref (ad (3400 + i.toNat)))) := by
  have h := met_lget l adK adV st D E A (cV nv F S) ad (cC E ad I F S Y L) 14 18 (S 14 0) (I 18) (Or.inl (by decide)) (cC_l (by decide)) i (L 18) (fun j => if (j : Int) < I 18 then some (ad (3400 + j)) else none) (Or.inl (by decide)) (cC_e (by decide)) (by omega) hi hL
  have e : va_rf (if ((i.toNat : Nat) : Int) < I 18 then some (ad (3400 + i.toNat)) else none) = .ref (ad (3400 + i.toNat)) := by rw [if_pos (by omega)]; rfl
  rw [e] at h
  exact h
theorem dX0_in_0 : decode cX0_in 0 = .ok (.lload_n 0, 1) := by decide +kernel
theorem dX0_in_1 : decode cX0_in 1 = .ok (.lload_n 2, 1) := by decide +kernel
theorem dX0_in_2 : decode cX0_in 2 = .ok (.lcmp, 1) := by decide +kernel
theorem dX0_in_3 : decode cX0_in 3 = .ok (.ifCond .lt 14, 3) := by decide +kernel
theorem dX0_in_6 : decode cX0_in 6 = .ok (.lload_n 0, 1) := by decide +kernel
theorem dX0_in_7 : decode cX0_in 7 = .ok (.lload 4, 2) := by decide +kernel
theorem dX0_in_9 : decode cX0_in 9 = .ok (.lcmp, 1) := by decide +kernel
theorem dX0_in_10 : decode cX0_in 10 = .ok (.ifCond .gt 7, 3) := by decide +kernel
theorem dX0_in_13 : decode cX0_in 13 = .ok (.iconst 1, 1) := by decide +kernel
theorem dX0_in_14 : decode cX0_in 14 = .ok (.goto 4, 3) := by decide +kernel
theorem dX0_in_17 : decode cX0_in 17 = .ok (.iconst 0, 1) := by decide +kernel
theorem dX0_in_18 : decode cX0_in 18 = .ok (.ireturn, 1) := by decide +kernel
set_option maxHeartbeats 4000000 in
theorem cin (l : Launch) (v lo hi : Int) (rv : R64 v) (rl : R64 lo) (rh : R64 hi) : SM l yX0_in cX0_in 6 (some .boolean) (mrm 0) [.long (iL v), .long (iL lo), .long (iL hi)] (vp_Si (fun r => r = iI (if lo ≤ v ∧ v ≤ hi then 1 else 0))) := by
  refine s_start (by decide) rfl (Nat.le_of_ble_eq_true rfl) ?_
  intro p e R s m args below meth c ls Q hR hQ hC hml hr hlk hl
  have hx := hC.1
  have hb := hC.2.1
  have hown := hC.2.2.1
  have hts := hC.2.2.2
  have hl : lv_has ls 6 [(0, .long (iL v)), (2, .long (iL lo)), (4, .long (iL hi))] := hl
  refine lv_lload_n hx hb dX0_in_0 rfl (lv_at hl 0 rfl) ?_
  refine lv_lload_n hx hb dX0_in_1 rfl (lv_at hl 1 rfl) ?_
  refine r_lcmp hx hb dX0_in_2 rv rl ?_
  refine r_lif_lt (tgt := 17) hx hb dX0_in_3 (by decide) (fun c1 => ?_) (fun c1 => ?_)
  · refine r_iconst hx hb dX0_in_17 ?_
    exact s_zret hC hr hlk (by decide) hQ dX0_in_18 (by split <;> omega)
  · refine lv_lload_n hx hb dX0_in_6 rfl (lv_at hl 0 rfl) ?_
    refine lv_lload hx hb dX0_in_7 (lv_at hl 2 rfl) ?_
    refine r_lcmp hx hb dX0_in_9 rv rh ?_
    refine r_lif_gt (tgt := 17) hx hb dX0_in_10 (by decide) (fun c2 => ?_) (fun c2 => ?_)
    · refine r_iconst hx hb dX0_in_17 ?_
      exact s_zret hC hr hlk (by decide) hQ dX0_in_18 (by split <;> omega)
    · refine r_iconst hx hb dX0_in_13 ?_
      refine lv_goto (tgt := 18) hx hb dX0_in_14 (by decide) ?_
      exact s_zret hC hr hlk (by decide) hQ dX0_in_18 (by split <;> omega)
theorem dX0_brought_0 : decode cX0_brought 0 = .ok (.iload_n 2, 1) := by decide +kernel
theorem dX0_brought_1 : decode cX0_brought 1 = .ok (.ineg, 1) := by decide +kernel
theorem dX0_brought_2 : decode cX0_brought 2 = .ok (.i2l, 1) := by decide +kernel
theorem dX0_brought_3 : decode cX0_brought 3 = .ok (.iload_n 2, 1) := by decide +kernel
theorem dX0_brought_4 : decode cX0_brought 4 = .ok (.i2l, 1) := by decide +kernel
theorem dX0_brought_5 : decode cX0_brought 5 = .ok (.lload_n 0, 1) := by decide +kernel
theorem dX0_brought_6 : decode cX0_brought 6 = .ok (.invokestatic 1, 3) := by decide +kernel
theorem dX0_brought_9 : decode cX0_brought 9 = .ok (.invokestatic 7, 3) := by decide +kernel
theorem dX0_brought_12 : decode cX0_brought 12 = .ok (.l2i, 1) := by decide +kernel
theorem dX0_brought_13 : decode cX0_brought 13 = .ok (.ireturn, 1) := by decide +kernel
set_option maxHeartbeats 4000000 in
theorem cbrought (l : Launch) (v mx : Int) (rv : R64 v) (rmx : 0 ≤ mx ∧ mx ≤ 2147483647) : SM l yX0_brought cX0_brought 3 (some .int) (mrm 1) [.long (iL v), .int (iI mx)] (vp_Si (fun r => r = iI (clampZ v mx))) := by
  refine s_start (by decide) rfl (Nat.le_of_ble_eq_true rfl) ?_
  intro p e R s m args below meth c ls Q hR hQ hC hml hr hlk hl
  have hx := hC.1
  have hb := hC.2.1
  have hown := hC.2.2.1
  have hts := hC.2.2.2
  have hl : lv_has ls 3 [(0, .long (iL v)), (2, .int (iI mx))] := hl
  refine lv_iload_n hx hb dX0_brought_0 rfl (lv_at hl 1 rfl) ?_
  refine r_ineg hx hb dX0_brought_1 ?_
  refine r_i2l hx hb dX0_brought_2 (by omega) ?_
  refine lv_iload_n hx hb dX0_brought_3 rfl (lv_at hl 1 rfl) ?_
  refine r_i2l hx hb dX0_brought_4 (by omega) ?_
  refine lv_lload_n hx hb dX0_brought_5 rfl (lv_at hl 0 rfl) ?_
  refine s_calll (j_runS (n := 2) (rest := [.long (iL (-mx))]) (as := [.long (iL mx), .long (iL v)]) hx hb hml hown hts ((met_minL l mx v (by first | exact rv | (split <;> omega) | omega) (by first | exact rv | (split <;> omega) | omega)).jm) (fun _ _ _ _ _ => trivial) (fun _ _ _ => trivial) q903 q892 q76 q893 (by decide +kernel) ⟨rfl, rfl⟩ hR (by decide) ⟨Nat.zero_le _, Nat.zero_le _⟩ rfl hl.1 rfl (Nat.le_of_ble_eq_true rfl) dX0_brought_6) ?_
  refine s_calll (j_runS (n := 2) (rest := []) (as := [.long (iL (-mx)), .long (iL (if v < mx then v else mx))]) hx hb hml hown hts ((met_maxL l (-mx) (if v < mx then v else mx) (by first | exact rv | (split <;> omega) | omega) (by first | exact rv | (split <;> omega) | omega)).jm) (fun _ _ _ _ _ => trivial) (fun _ _ _ => trivial) q904 q895 q76 q896 (by decide +kernel) ⟨rfl, rfl⟩ hR (by decide) ⟨Nat.zero_le _, Nat.zero_le _⟩ rfl hl.1 rfl (Nat.le_of_ble_eq_true rfl) dX0_brought_9) ?_
  refine r_l2i hx hb dX0_brought_12 ?_
  exact s_iret hC hr hlk hQ dX0_brought_13 (by unfold clampZ; split <;> (try split) <;> (try split) <;> omega)
theorem dX0_faster_0 : decode cX0_faster 0 = .ok (.iload_n 0, 1) := by decide +kernel
theorem dX0_faster_1 : decode cX0_faster 1 = .ok (.iload_n 1, 1) := by decide +kernel
theorem dX0_faster_2 : decode cX0_faster 2 = .ok (.iload_n 2, 1) := by decide +kernel
theorem dX0_faster_3 : decode cX0_faster 3 = .ok (.idiv, 1) := by decide +kernel
theorem dX0_faster_4 : decode cX0_faster 4 = .ok (.iadd, 1) := by decide +kernel
theorem dX0_faster_5 : decode cX0_faster 5 = .ok (.i2l, 1) := by decide +kernel
theorem dX0_faster_6 : decode cX0_faster 6 = .ok (.bipush 30, 2) := by decide +kernel
theorem dX0_faster_8 : decode cX0_faster 8 = .ok (.invokestatic 265, 3) := by decide +kernel
theorem dX0_faster_11 : decode cX0_faster 11 = .ok (.ireturn, 1) := by decide +kernel
set_option maxHeartbeats 4000000 in
theorem cfaster (l : Launch) (v fo ine : Int) (rv : R32 v) (rf : R32 fo) (ri : 1 ≤ ine ∧ ine ≤ 50) (rs : R32 (v + fo.tdiv ine)) : SM l yX0_faster cX0_faster 3 (some .int) (mrm 2) [.int (iI v), .int (iI fo), .int (iI ine)] (vp_Si (fun r => r = iI (clampZ (v + fo.tdiv ine) 30))) := by
  refine s_start (by decide) rfl (Nat.le_of_ble_eq_true rfl) ?_
  intro p e R s m args below meth c ls Q hR hQ hC hml hr hlk hl
  have hx := hC.1
  have hb := hC.2.1
  have hown := hC.2.2.1
  have hts := hC.2.2.2
  have hl : lv_has ls 3 [(0, .int (iI v)), (1, .int (iI fo)), (2, .int (iI ine))] := hl
  refine lv_iload_n hx hb dX0_faster_0 rfl (lv_at hl 0 rfl) ?_
  refine lv_iload_n hx hb dX0_faster_1 rfl (lv_at hl 1 rfl) ?_
  refine lv_iload_n hx hb dX0_faster_2 rfl (lv_at hl 2 rfl) ?_
  refine r_idiv hx hb dX0_faster_3 rf (by omega) (by omega) ?_
  refine r_iadd hx hb dX0_faster_4 ?_
  refine r_i2l hx hb dX0_faster_5 rs ?_
  refine r_bipush hx hb dX0_faster_6 (by decide) ?_
  refine s_calli (j_runS (n := 2) (rest := []) (as := [.long (iL (v + (fo.tdiv ine))), .int (iI 30)]) hx hb hml hown hts ((cbrought l (v + (fo.tdiv ine)) 30 (by omega) (by decide)).jm) (fun _ _ _ _ _ => trivial) (fun _ _ _ => trivial) q908 q901 q68 q902 (by decide +kernel) ⟨rfl, rfl⟩ hR (by decide) ⟨Nat.zero_le _, Nat.zero_le _⟩ rfl hl.1 rfl (Nat.le_of_ble_eq_true rfl) dX0_faster_8) ?_
  exact s_iret hC hr hlk hQ dX0_faster_11 (rfl)
