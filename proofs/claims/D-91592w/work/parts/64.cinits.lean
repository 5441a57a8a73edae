/-! CONSTRUCTORS of small things -/
set_option maxRecDepth 100000
theorem dX7_init_0 : decode cX7_init 0 = .ok (.aload_n 0, 1) := by decide +kernel
theorem dX7_init_1 : decode cX7_init 1 = .ok (.invokespecial 1, 3) := by decide +kernel
theorem dX7_init_4 : decode cX7_init 4 = .ok (.return_, 1) := by decide +kernel
set_option maxHeartbeats 4000000 in
theorem met_xi7 (l : Launch) (adK adV st : Nat → Nat) (D : va_G) (E : Nat → ClassId) (A : Nat → Prop) (V : Nat → Prop) (ad : Nat → Nat) (C : Nat → va_E) (al : Nat) : AM l yX7_init cX7_init 1 none (amr 1 0 0) adK adV st D E A [.ref al] V ad C (AQv D E A (fun ad1 V1 C1 => ad = ad1 ∧ V = V1 ∧ C = C1)) 0 0 := by
  refine a_start (by decide) rfl (Nat.le_of_ble_eq_true rfl) ?_
  intro p e R s m args below meth c ls Q hR hQ hCK hml hr hlk hnme hG hS hE hA hl
  have hx := hCK.1
  have hb := hCK.2.1
  have hown := hCK.2.2.1
  have hts := hCK.2.2.2.1
  have hK := hCK.2.2.2.2
  have hl : lv_has ls 1 [(0, .ref al)] := hl
  refine lv_aload_n hx hb dX7_init_0 rfl (lv_at hl 0 rfl) ?_
  refine a_oini hCK (hml.trans hl.1.symm) q523 q98 q99 (by rw [hR]; decide) (by rw [hR]; decide) dX7_init_1 ?_
  exact a_vret hCK hQ hr hlk hG hS (by omega) (by omega) dX7_init_4 (⟨rfl, rfl, rfl⟩)
theorem dX4_init_0 : decode cX4_init 0 = .ok (.aload_n 0, 1) := by decide +kernel
theorem dX4_init_1 : decode cX4_init 1 = .ok (.invokespecial 1, 3) := by decide +kernel
theorem dX4_init_4 : decode cX4_init 4 = .ok (.aload_n 0, 1) := by decide +kernel
theorem dX4_init_5 : decode cX4_init 5 = .ok (.iload_n 1, 1) := by decide +kernel
theorem dX4_init_6 : decode cX4_init 6 = .ok (.putfield 7, 3) := by decide +kernel
theorem dX4_init_9 : decode cX4_init 9 = .ok (.aload_n 0, 1) := by decide +kernel
theorem dX4_init_10 : decode cX4_init 10 = .ok (.iload_n 2, 1) := by decide +kernel
theorem dX4_init_11 : decode cX4_init 11 = .ok (.putfield 13, 3) := by decide +kernel
theorem dX4_init_14 : decode cX4_init 14 = .ok (.aload_n 0, 1) := by decide +kernel
theorem dX4_init_15 : decode cX4_init 15 = .ok (.iload_n 3, 1) := by decide +kernel
theorem dX4_init_16 : decode cX4_init 16 = .ok (.putfield 16, 3) := by decide +kernel
theorem dX4_init_19 : decode cX4_init 19 = .ok (.aload_n 0, 1) := by decide +kernel
theorem dX4_init_20 : decode cX4_init 20 = .ok (.iload 4, 2) := by decide +kernel
theorem dX4_init_22 : decode cX4_init 22 = .ok (.putfield 19, 3) := by decide +kernel
theorem dX4_init_25 : decode cX4_init 25 = .ok (.return_, 1) := by decide +kernel
set_option maxHeartbeats 4000000 in
theorem met_xi4 (l : Launch) (adK adV st : Nat → Nat) (D : va_G) (E : Nat → ClassId) (A : Nat → Prop) (V : Nat → Prop) (ad : Nat → Nat) (C : Nat → va_E) (ro sx : Nat) (a0 a1 a2 a3 : Int) (v_ob : V ro) (e_ob : ad ro = sx) (k_ob : C ro = .inr (4, [.int (iI 0), .int (iI 0), .int (iI 0), .int (iI 0), .int (iI 0)])) : AM l yX4_init cX4_init 5 none (amr 1 0 0) adK adV st D E A [.ref sx, .int (iI a0), .int (iI a1), .int (iI a2), .int (iI a3)] V ad C (AQv D E A (fun ad1 V1 C1 => ad = ad1 ∧ V = V1 ∧ C1 ro = .inr (4, [.int (iI a0), .int (iI a1), .int (iI a2), .int (iI a3), .int (iI 0)]) ∧ ∀ q, q ≠ ro → C1 q = C q)) 0 0 := by
  refine a_start (by decide) rfl (Nat.le_of_ble_eq_true rfl) ?_
  intro p e R s m args below meth c ls Q hR hQ hCK hml hr hlk hnme hG hS hE hA hl
  have hx := hCK.1
  have hb := hCK.2.1
  have hown := hCK.2.2.1
  have hts := hCK.2.2.2.1
  have hK := hCK.2.2.2.2
  have hl : lv_has ls 5 [(0, .ref sx), (1, .int (iI a0)), (2, .int (iI a1)), (3, .int (iI a2)), (4, .int (iI a3))] := hl
  have hOc : ∀ q, (q ≠ ro) → C q = C q := fun _ _ => rfl
  refine lv_aload_n hx hb dX4_init_0 rfl (lv_at hl 0 rfl) ?_
  refine a_oini hCK (hml.trans hl.1.symm) q673 q98 q99 (by rw [hR]; decide) (by rw [hR]; decide) dX4_init_1 ?_
  refine lv_aload_n hx hb dX4_init_4 rfl (lv_at hl 0 rfl) ?_
  refine lv_iload_n hx hb dX4_init_5 rfl (lv_at hl 1 rfl) ?_
  refine a_putF (tyf := tyX4) hCK hnme hG hS ro e_ob v_ob k_ob (ci := 4) rfl in_X4 tyX4_ok nmX4 0 (by decide) q674 rfl rfl rfl rfl (Nat.le_of_ble_eq_true rfl) dX4_init_6 (fun C1 H locs kk2 oo3 hG hS => ?_)
  have k_ob : C1 ro = .inr (4, [.int (iI a0), .int (iI 0), .int (iI 0), .int (iI 0), .int (iI 0)]) := kk2
  have hOc : ∀ q, (q ≠ ro) → C1 q = C q := fun q hq => (oo3 q (by omega)).trans (hOc q hq)
  refine lv_aload_n hx hb dX4_init_9 rfl (lv_at hl 0 rfl) ?_
  refine lv_iload_n hx hb dX4_init_10 rfl (lv_at hl 2 rfl) ?_
  refine a_putF (tyf := tyX4) hCK hnme hG hS ro e_ob v_ob k_ob (ci := 4) rfl in_X4 tyX4_ok nmX4 1 (by decide) q676 rfl rfl rfl rfl (Nat.le_of_ble_eq_true rfl) dX4_init_11 (fun C4 H locs kk5 oo6 hG hS => ?_)
  have k_ob : C4 ro = .inr (4, [.int (iI a0), .int (iI a1), .int (iI 0), .int (iI 0), .int (iI 0)]) := kk5
  have hOc : ∀ q, (q ≠ ro) → C4 q = C q := fun q hq => (oo6 q (by omega)).trans (hOc q hq)
  refine lv_aload_n hx hb dX4_init_14 rfl (lv_at hl 0 rfl) ?_
  refine lv_iload_n hx hb dX4_init_15 rfl (lv_at hl 3 rfl) ?_
  refine a_putF (tyf := tyX4) hCK hnme hG hS ro e_ob v_ob k_ob (ci := 4) rfl in_X4 tyX4_ok nmX4 2 (by decide) q678 rfl rfl rfl rfl (Nat.le_of_ble_eq_true rfl) dX4_init_16 (fun C7 H locs kk8 oo9 hG hS => ?_)
  have k_ob : C7 ro = .inr (4, [.int (iI a0), .int (iI a1), .int (iI a2), .int (iI 0), .int (iI 0)]) := kk8
  have hOc : ∀ q, (q ≠ ro) → C7 q = C q := fun q hq => (oo9 q (by omega)).trans (hOc q hq)
  refine lv_aload_n hx hb dX4_init_19 rfl (lv_at hl 0 rfl) ?_
  refine lv_iload hx hb dX4_init_20 (lv_at hl 4 rfl) ?_
  refine a_putF (tyf := tyX4) hCK hnme hG hS ro e_ob v_ob k_ob (ci := 4) rfl in_X4 tyX4_ok nmX4 3 (by decide) q680 rfl rfl rfl rfl (Nat.le_of_ble_eq_true rfl) dX4_init_22 (fun C10 H locs kk11 oo12 hG hS => ?_)
  have k_ob : C10 ro = .inr (4, [.int (iI a0), .int (iI a1), .int (iI a2), .int (iI a3), .int (iI 0)]) := kk11
  have hOc : ∀ q, (q ≠ ro) → C10 q = C q := fun q hq => (oo12 q (by omega)).trans (hOc q hq)
  exact a_vret hCK hQ hr hlk hG hS (by omega) (by omega) dX4_init_25 (⟨rfl, rfl, k_ob, hOc⟩)
theorem dX5_init_0 : decode cX5_init 0 = .ok (.aload_n 0, 1) := by decide +kernel
theorem dX5_init_1 : decode cX5_init 1 = .ok (.invokespecial 1, 3) := by decide +kernel
theorem dX5_init_4 : decode cX5_init 4 = .ok (.aload_n 0, 1) := by decide +kernel
theorem dX5_init_5 : decode cX5_init 5 = .ok (.iload_n 1, 1) := by decide +kernel
theorem dX5_init_6 : decode cX5_init 6 = .ok (.putfield 7, 3) := by decide +kernel
theorem dX5_init_9 : decode cX5_init 9 = .ok (.aload_n 0, 1) := by decide +kernel
theorem dX5_init_10 : decode cX5_init 10 = .ok (.iload_n 2, 1) := by decide +kernel
theorem dX5_init_11 : decode cX5_init 11 = .ok (.putfield 13, 3) := by decide +kernel
theorem dX5_init_14 : decode cX5_init 14 = .ok (.aload_n 0, 1) := by decide +kernel
theorem dX5_init_15 : decode cX5_init 15 = .ok (.iload_n 3, 1) := by decide +kernel
theorem dX5_init_16 : decode cX5_init 16 = .ok (.putfield 16, 3) := by decide +kernel
theorem dX5_init_19 : decode cX5_init 19 = .ok (.return_, 1) := by decide +kernel
set_option maxHeartbeats 4000000 in
theorem met_xi5 (l : Launch) (adK adV st : Nat → Nat) (D : va_G) (E : Nat → ClassId) (A : Nat → Prop) (V : Nat → Prop) (ad : Nat → Nat) (C : Nat → va_E) (ro sx : Nat) (a0 a1 a2 : Int) (v_ob : V ro) (e_ob : ad ro = sx) (k_ob : C ro = .inr (5, [.int (iI 0), .int (iI 0), .int (iI 0), .int (iI 0)])) : AM l yX5_init cX5_init 4 none (amr 1 0 0) adK adV st D E A [.ref sx, .int (iI a0), .int (iI a1), .int (iI a2)] V ad C (AQv D E A (fun ad1 V1 C1 => ad = ad1 ∧ V = V1 ∧ C1 ro = .inr (5, [.int (iI a0), .int (iI a1), .int (iI a2), .int (iI 0)]) ∧ ∀ q, q ≠ ro → C1 q = C q)) 0 0 := by
  refine a_start (by decide) rfl (Nat.le_of_ble_eq_true rfl) ?_
  intro p e R s m args below meth c ls Q hR hQ hCK hml hr hlk hnme hG hS hE hA hl
  have hx := hCK.1
  have hb := hCK.2.1
  have hown := hCK.2.2.1
  have hts := hCK.2.2.2.1
  have hK := hCK.2.2.2.2
  have hl : lv_has ls 4 [(0, .ref sx), (1, .int (iI a0)), (2, .int (iI a1)), (3, .int (iI a2))] := hl
  have hOc : ∀ q, (q ≠ ro) → C q = C q := fun _ _ => rfl
  refine lv_aload_n hx hb dX5_init_0 rfl (lv_at hl 0 rfl) ?_
  refine a_oini hCK (hml.trans hl.1.symm) q715 q98 q99 (by rw [hR]; decide) (by rw [hR]; decide) dX5_init_1 ?_
  refine lv_aload_n hx hb dX5_init_4 rfl (lv_at hl 0 rfl) ?_
  refine lv_iload_n hx hb dX5_init_5 rfl (lv_at hl 1 rfl) ?_
  refine a_putF (tyf := tyX5) hCK hnme hG hS ro e_ob v_ob k_ob (ci := 5) rfl in_X5 tyX5_ok nmX5 0 (by decide) q716 rfl rfl rfl rfl (Nat.le_of_ble_eq_true rfl) dX5_init_6 (fun C1 H locs kk2 oo3 hG hS => ?_)
  have k_ob : C1 ro = .inr (5, [.int (iI a0), .int (iI 0), .int (iI 0), .int (iI 0)]) := kk2
  have hOc : ∀ q, (q ≠ ro) → C1 q = C q := fun q hq => (oo3 q (by omega)).trans (hOc q hq)
  refine lv_aload_n hx hb dX5_init_9 rfl (lv_at hl 0 rfl) ?_
  refine lv_iload_n hx hb dX5_init_10 rfl (lv_at hl 2 rfl) ?_
  refine a_putF (tyf := tyX5) hCK hnme hG hS ro e_ob v_ob k_ob (ci := 5) rfl in_X5 tyX5_ok nmX5 1 (by decide) q717 rfl rfl rfl rfl (Nat.le_of_ble_eq_true rfl) dX5_init_11 (fun C4 H locs kk5 oo6 hG hS => ?_)
  have k_ob : C4 ro = .inr (5, [.int (iI a0), .int (iI a1), .int (iI 0), .int (iI 0)]) := kk5
  have hOc : ∀ q, (q ≠ ro) → C4 q = C q := fun q hq => (oo6 q (by omega)).trans (hOc q hq)
  refine lv_aload_n hx hb dX5_init_14 rfl (lv_at hl 0 rfl) ?_
  refine lv_iload_n hx hb dX5_init_15 rfl (lv_at hl 3 rfl) ?_
  refine a_putF (tyf := tyX5) hCK hnme hG hS ro e_ob v_ob k_ob (ci := 5) rfl in_X5 tyX5_ok nmX5 2 (by decide) q719 rfl rfl rfl rfl (Nat.le_of_ble_eq_true rfl) dX5_init_16 (fun C7 H locs kk8 oo9 hG hS => ?_)
  have k_ob : C7 ro = .inr (5, [.int (iI a0), .int (iI a1), .int (iI a2), .int (iI 0)]) := kk8
  have hOc : ∀ q, (q ≠ ro) → C7 q = C q := fun q hq => (oo9 q (by omega)).trans (hOc q hq)
  exact a_vret hCK hQ hr hlk hG hS (by omega) (by omega) dX5_init_19 (⟨rfl, rfl, k_ob, hOc⟩)
theorem dX6_init_0 : decode cX6_init 0 = .ok (.aload_n 0, 1) := by decide +kernel
theorem dX6_init_1 : decode cX6_init 1 = .ok (.invokespecial 1, 3) := by decide +kernel
theorem dX6_init_4 : decode cX6_init 4 = .ok (.aload_n 0, 1) := by decide +kernel
theorem dX6_init_5 : decode cX6_init 5 = .ok (.iload_n 1, 1) := by decide +kernel
theorem dX6_init_6 : decode cX6_init 6 = .ok (.putfield 7, 3) := by decide +kernel
theorem dX6_init_9 : decode cX6_init 9 = .ok (.aload_n 0, 1) := by decide +kernel
theorem dX6_init_10 : decode cX6_init 10 = .ok (.iload_n 2, 1) := by decide +kernel
theorem dX6_init_11 : decode cX6_init 11 = .ok (.putfield 13, 3) := by decide +kernel
theorem dX6_init_14 : decode cX6_init 14 = .ok (.aload_n 0, 1) := by decide +kernel
theorem dX6_init_15 : decode cX6_init 15 = .ok (.iload_n 3, 1) := by decide +kernel
theorem dX6_init_16 : decode cX6_init 16 = .ok (.putfield 16, 3) := by decide +kernel
theorem dX6_init_19 : decode cX6_init 19 = .ok (.return_, 1) := by decide +kernel
set_option maxHeartbeats 4000000 in
theorem met_xi6 (l : Launch) (adK adV st : Nat → Nat) (D : va_G) (E : Nat → ClassId) (A : Nat → Prop) (V : Nat → Prop) (ad : Nat → Nat) (C : Nat → va_E) (ro sx : Nat) (a0 a1 a2 : Int) (v_ob : V ro) (e_ob : ad ro = sx) (k_ob : C ro = .inr (6, [.int (iI 0), .int (iI 0), .int (iI 0)])) : AM l yX6_init cX6_init 4 none (amr 1 0 0) adK adV st D E A [.ref sx, .int (iI a0), .int (iI a1), .int (iI a2)] V ad C (AQv D E A (fun ad1 V1 C1 => ad = ad1 ∧ V = V1 ∧ C1 ro = .inr (6, [.int (iI a0), .int (iI a1), .int (iI a2)]) ∧ ∀ q, q ≠ ro → C1 q = C q)) 0 0 := by
  refine a_start (by decide) rfl (Nat.le_of_ble_eq_true rfl) ?_
  intro p e R s m args below meth c ls Q hR hQ hCK hml hr hlk hnme hG hS hE hA hl
  have hx := hCK.1
  have hb := hCK.2.1
  have hown := hCK.2.2.1
  have hts := hCK.2.2.2.1
  have hK := hCK.2.2.2.2
  have hl : lv_has ls 4 [(0, .ref sx), (1, .int (iI a0)), (2, .int (iI a1)), (3, .int (iI a2))] := hl
  have hOc : ∀ q, (q ≠ ro) → C q = C q := fun _ _ => rfl
  refine lv_aload_n hx hb dX6_init_0 rfl (lv_at hl 0 rfl) ?_
  refine a_oini hCK (hml.trans hl.1.symm) q806 q98 q99 (by rw [hR]; decide) (by rw [hR]; decide) dX6_init_1 ?_
  refine lv_aload_n hx hb dX6_init_4 rfl (lv_at hl 0 rfl) ?_
  refine lv_iload_n hx hb dX6_init_5 rfl (lv_at hl 1 rfl) ?_
  refine a_putF (tyf := tyX6) hCK hnme hG hS ro e_ob v_ob k_ob (ci := 6) rfl in_X6 tyX6_ok nmX6 0 (by decide) q807 rfl rfl rfl rfl (Nat.le_of_ble_eq_true rfl) dX6_init_6 (fun C1 H locs kk2 oo3 hG hS => ?_)
  have k_ob : C1 ro = .inr (6, [.int (iI a0), .int (iI 0), .int (iI 0)]) := kk2
  have hOc : ∀ q, (q ≠ ro) → C1 q = C q := fun q hq => (oo3 q (by omega)).trans (hOc q hq)
  refine lv_aload_n hx hb dX6_init_9 rfl (lv_at hl 0 rfl) ?_
  refine lv_iload_n hx hb dX6_init_10 rfl (lv_at hl 2 rfl) ?_
  refine a_putF (tyf := tyX6) hCK hnme hG hS ro e_ob v_ob k_ob (ci := 6) rfl in_X6 tyX6_ok nmX6 1 (by decide) q808 rfl rfl rfl rfl (Nat.le_of_ble_eq_true rfl) dX6_init_11 (fun C4 H locs kk5 oo6 hG hS => ?_)
  have k_ob : C4 ro = .inr (6, [.int (iI a0), .int (iI a1), .int (iI 0)]) := kk5
  have hOc : ∀ q, (q ≠ ro) → C4 q = C q := fun q hq => (oo6 q (by omega)).trans (hOc q hq)
  refine lv_aload_n hx hb dX6_init_14 rfl (lv_at hl 0 rfl) ?_
  refine lv_iload_n hx hb dX6_init_15 rfl (lv_at hl 3 rfl) ?_
  refine a_putF (tyf := tyX6) hCK hnme hG hS ro e_ob v_ob k_ob (ci := 6) rfl in_X6 tyX6_ok nmX6 2 (by decide) q809 rfl rfl rfl rfl (Nat.le_of_ble_eq_true rfl) dX6_init_16 (fun C7 H locs kk8 oo9 hG hS => ?_)
  have k_ob : C7 ro = .inr (6, [.int (iI a0), .int (iI a1), .int (iI a2)]) := kk8
  have hOc : ∀ q, (q ≠ ro) → C7 q = C q := fun q hq => (oo9 q (by omega)).trans (hOc q hq)
  exact a_vret hCK hQ hr hlk hG hS (by omega) (by omega) dX6_init_19 (⟨rfl, rfl, k_ob, hOc⟩)
theorem dX8_init_0 : decode cX8_init 0 = .ok (.aload_n 0, 1) := by decide +kernel
theorem dX8_init_1 : decode cX8_init 1 = .ok (.invokespecial 3, 3) := by decide +kernel
theorem dX8_init_4 : decode cX8_init 4 = .ok (.aload_n 0, 1) := by decide +kernel
theorem dX8_init_5 : decode cX8_init 5 = .ok (.iload_n 1, 1) := by decide +kernel
theorem dX8_init_6 : decode cX8_init 6 = .ok (.putfield 9, 3) := by decide +kernel
theorem dX8_init_9 : decode cX8_init 9 = .ok (.return_, 1) := by decide +kernel
set_option maxHeartbeats 4000000 in
theorem met_xi8 (l : Launch) (adK adV st : Nat → Nat) (D : va_G) (E : Nat → ClassId) (A : Nat → Prop) (V : Nat → Prop) (ad : Nat → Nat) (C : Nat → va_E) (ro sx : Nat) (a0 : Int) (v_ob : V ro) (e_ob : ad ro = sx) (k_ob : C ro = .inr (7, [.int (iI 0)])) : AM l yX8_init cX8_init 2 none (amr 2 0 0) adK adV st D E A [.ref sx, .int (iI a0)] V ad C (AQv D E A (fun ad1 V1 C1 => ad = ad1 ∧ V = V1 ∧ C1 ro = .inr (7, [.int (iI a0)]) ∧ ∀ q, q ≠ ro → C1 q = C q)) 0 0 := by
  refine a_start (by decide) rfl (Nat.le_of_ble_eq_true rfl) ?_
  intro p e R s m args below meth c ls Q hR hQ hCK hml hr hlk hnme hG hS hE hA hl
  have hx := hCK.1
  have hb := hCK.2.1
  have hown := hCK.2.2.1
  have hts := hCK.2.2.2.1
  have hK := hCK.2.2.2.2
  have hl : lv_has ls 2 [(0, .ref sx), (1, .int (iI a0))] := hl
  have hOc : ∀ q, (q ≠ ro) → C q = C q := fun _ _ => rfl
  refine lv_aload_n hx hb dX8_init_0 rfl (lv_at hl 0 rfl) ?_
  refine a_callv (a_runIN (n := 0) (b := sx) (rest := []) (as := []) hCK hE hA hml (met_xi7 l adK adV st D E A V ad C sx) q520 q521 q84 q522 rfl (by decide +kernel) ⟨rfl, rfl⟩ hR ⟨Nat.le_of_ble_eq_true rfl, Nat.le_of_ble_eq_true rfl⟩ ⟨(by rw [hR]; show _ ≤ _; (try unfold amr); (try simp only []); omega), (by rw [hR]; show _ ≤ _; (try unfold amr); (try simp only []); omega)⟩ hG hS rfl hl.1 rfl (Nat.le_of_ble_eq_true rfl) dX8_init_1) hS (fun ad2 V3 C4 H locs hp5 hG hS => ?_)
  obtain ⟨rfl, rfl, rfl⟩ := hp5
  refine lv_aload_n hx hb dX8_init_4 rfl (lv_at hl 0 rfl) ?_
  refine lv_iload_n hx hb dX8_init_5 rfl (lv_at hl 1 rfl) ?_
  refine a_putF (tyf := tyX8) hCK hnme hG hS ro e_ob v_ob k_ob (ci := 7) rfl in_X8 tyX8_ok nmX8 0 (by decide) q524 rfl rfl rfl rfl (Nat.le_of_ble_eq_true rfl) dX8_init_6 (fun C6 H locs kk7 oo8 hG hS => ?_)
  have k_ob : C6 ro = .inr (7, [.int (iI a0)]) := kk7
  have hOc : ∀ q, (q ≠ ro) → C6 q = C q := fun q hq => (oo8 q (by omega)).trans (hOc q hq)
  exact a_vret hCK hQ hr hlk hG hS (by omega) (by omega) dX8_init_9 (⟨rfl, rfl, k_ob, hOc⟩)
theorem dX10_init_0 : decode cX10_init 0 = .ok (.aload_n 0, 1) := by decide +kernel
theorem dX10_init_1 : decode cX10_init 1 = .ok (.invokespecial 1, 3) := by decide +kernel
theorem dX10_init_4 : decode cX10_init 4 = .ok (.aload_n 0, 1) := by decide +kernel
theorem dX10_init_5 : decode cX10_init 5 = .ok (.iload_n 1, 1) := by decide +kernel
theorem dX10_init_6 : decode cX10_init 6 = .ok (.putfield 7, 3) := by decide +kernel
theorem dX10_init_9 : decode cX10_init 9 = .ok (.aload_n 0, 1) := by decide +kernel
theorem dX10_init_10 : decode cX10_init 10 = .ok (.iload_n 2, 1) := by decide +kernel
theorem dX10_init_11 : decode cX10_init 11 = .ok (.putfield 13, 3) := by decide +kernel
theorem dX10_init_14 : decode cX10_init 14 = .ok (.return_, 1) := by decide +kernel
set_option maxHeartbeats 4000000 in
theorem met_xi10 (l : Launch) (adK adV st : Nat → Nat) (D : va_G) (E : Nat → ClassId) (A : Nat → Prop) (V : Nat → Prop) (ad : Nat → Nat) (C : Nat → va_E) (ro sx : Nat) (a0 a1 : Int) (v_ob : V ro) (e_ob : ad ro = sx) (k_ob : C ro = .inr (9, [.int (iI 0), .int (iI 0)])) (hz : a1 = 0 ∨ a1 = 1) : AM l yX10_init cX10_init 3 none (amr 2 0 0) adK adV st D E A [.ref sx, .int (iI a0), .int (iI a1)] V ad C (AQv D E A (fun ad1 V1 C1 => ad = ad1 ∧ V = V1 ∧ C1 ro = .inr (9, [.int (iI a0), .int (iI a1)]) ∧ ∀ q, q ≠ ro → C1 q = C q)) 0 0 := by
  refine a_start (by decide) rfl (Nat.le_of_ble_eq_true rfl) ?_
  intro p e R s m args below meth c ls Q hR hQ hCK hml hr hlk hnme hG hS hE hA hl
  have hx := hCK.1
  have hb := hCK.2.1
  have hown := hCK.2.2.1
  have hts := hCK.2.2.2.1
  have hK := hCK.2.2.2.2
  have hl : lv_has ls 3 [(0, .ref sx), (1, .int (iI a0)), (2, .int (iI a1))] := hl
  have hOc : ∀ q, (q ≠ ro) → C q = C q := fun _ _ => rfl
  refine lv_aload_n hx hb dX10_init_0 rfl (lv_at hl 0 rfl) ?_
  refine a_callv (a_runIN (n := 0) (b := sx) (rest := []) (as := []) hCK hE hA hml (met_xi7 l adK adV st D E A V ad C sx) q603 q521 q84 q522 rfl (by decide +kernel) ⟨rfl, rfl⟩ hR ⟨Nat.le_of_ble_eq_true rfl, Nat.le_of_ble_eq_true rfl⟩ ⟨(by rw [hR]; show _ ≤ _; (try unfold amr); (try simp only []); omega), (by rw [hR]; show _ ≤ _; (try unfold amr); (try simp only []); omega)⟩ hG hS rfl hl.1 rfl (Nat.le_of_ble_eq_true rfl) dX10_init_1) hS (fun ad2 V3 C4 H locs hp5 hG hS => ?_)
  obtain ⟨rfl, rfl, rfl⟩ := hp5
  refine lv_aload_n hx hb dX10_init_4 rfl (lv_at hl 0 rfl) ?_
  refine lv_iload_n hx hb dX10_init_5 rfl (lv_at hl 1 rfl) ?_
  refine a_putF (tyf := tyX10) hCK hnme hG hS ro e_ob v_ob k_ob (ci := 9) rfl in_X10 tyX10_ok nmX10 0 (by decide) q604 rfl rfl rfl rfl (Nat.le_of_ble_eq_true rfl) dX10_init_6 (fun C6 H locs kk7 oo8 hG hS => ?_)
  have k_ob : C6 ro = .inr (9, [.int (iI a0), .int (iI 0)]) := kk7
  have hOc : ∀ q, (q ≠ ro) → C6 q = C q := fun q hq => (oo8 q (by omega)).trans (hOc q hq)
  refine lv_aload_n hx hb dX10_init_9 rfl (lv_at hl 0 rfl) ?_
  refine lv_iload_n hx hb dX10_init_10 rfl (lv_at hl 2 rfl) ?_
  refine a_putF (tyf := tyX10) hCK hnme hG hS ro e_ob v_ob k_ob (ci := 9) rfl in_X10 tyX10_ok nmX10 1 (by decide) q605 rfl rfl (nar_bool hz) (fit_bool hz) (Nat.le_of_ble_eq_true rfl) dX10_init_11 (fun C9 H locs kk10 oo11 hG hS => ?_)
  have k_ob : C9 ro = .inr (9, [.int (iI a0), .int (iI a1)]) := kk10
  have hOc : ∀ q, (q ≠ ro) → C9 q = C q := fun q hq => (oo11 q (by omega)).trans (hOc q hq)
  exact a_vret hCK hQ hr hlk hG hS (by omega) (by omega) dX10_init_14 (⟨rfl, rfl, k_ob, hOc⟩)
theorem dX3_init_0 : decode cX3_init 0 = .ok (.aload_n 0, 1) := by decide +kernel
theorem dX3_init_1 : decode cX3_init 1 = .ok (.invokespecial 3, 3) := by decide +kernel
theorem dX3_init_4 : decode cX3_init 4 = .ok (.aload_n 0, 1) := by decide +kernel
theorem dX3_init_5 : decode cX3_init 5 = .ok (.bipush 10, 2) := by decide +kernel
theorem dX3_init_7 : decode cX3_init 7 = .ok (.newarray .int, 2) := by decide +kernel
theorem dX3_init_9 : decode cX3_init 9 = .ok (.putfield 9, 3) := by decide +kernel
theorem dX3_init_12 : decode cX3_init 12 = .ok (.aload_n 0, 1) := by decide +kernel
theorem dX3_init_13 : decode cX3_init 13 = .ok (.iload_n 1, 1) := by decide +kernel
theorem dX3_init_14 : decode cX3_init 14 = .ok (.putfield 15, 3) := by decide +kernel
theorem dX3_init_17 : decode cX3_init 17 = .ok (.return_, 1) := by decide +kernel
set_option maxHeartbeats 4000000 in
theorem met_xi3 (l : Launch) (adK adV st : Nat → Nat) (D : va_G) (E : Nat → ClassId) (A : Nat → Prop) (V : Nat → Prop) (ad : Nat → Nat) (C : Nat → va_E) (ro sx rh : Nat) (a0 : Int) (hne : ro ≠ rh) (v_ob : V ro) (e_ob : ad ro = sx) (k_ob : C ro = .inr (3, [.int (iI 0), .null])) : AM l yX3_init cX3_init 2 none (amr 1 1 10) adK adV st D E A [.ref sx, .int (iI a0)] V ad C (AQv D E A (fun ad1 V1 C1 => V1 = (fun q => V q ∨ q = rh) ∧ C1 rh = .inl (E 0, 10, ai (fun _ => 0)) ∧ C1 ro = .inr (3, [.int (iI a0), .ref (ad1 rh)]) ∧ (∀ q, q ≠ rh → ad1 q = ad q) ∧ ∀ q, q ≠ rh → q ≠ ro → C1 q = C q)) 1 10 := by
  refine a_start (by decide) rfl (Nat.le_of_ble_eq_true rfl) ?_
  intro p e R s m args below meth c ls Q hR hQ hCK hml hr hlk hnme hG hS hE hA hl
  have hx := hCK.1
  have hb := hCK.2.1
  have hown := hCK.2.2.1
  have hts := hCK.2.2.2.1
  have hK := hCK.2.2.2.2
  have hl : lv_has ls 2 [(0, .ref sx), (1, .int (iI a0))] := hl
  have hOa : ∀ q, (q ≠ rh) → ad q = ad q := fun _ _ => rfl
  have hOc : ∀ q, (q ≠ rh ∧ q ≠ ro) → C q = C q := fun _ _ => rfl
  refine lv_aload_n hx hb dX3_init_0 rfl (lv_at hl 0 rfl) ?_
  refine a_oini hCK (hml.trans hl.1.symm) q647 q98 q99 (by rw [hR]; decide) (by rw [hR]; decide) dX3_init_1 ?_
  refine lv_aload_n hx hb dX3_init_4 rfl (lv_at hl 0 rfl) ?_
  refine r_bipush hx hb dX3_init_5 (by decide) ?_
  refine a_newa (t := 0) (N := 10) hCK hG hS hA rh q129 rfl rfl rfl rfl rfl (by decide) (by decide) (by rw [hR]; show _ ≤ _; (try unfold amr); (try simp only []); omega) (by rw [hR]; show _ ≤ _; (try unfold amr); (try simp only []); omega) dX3_init_7 (fun x1 ad2 C3 H e_ha k_ha oo4 hG hS oh5 => ?_)
  obtain ⟨V6, hV6⟩ : ∃ X : Nat → Prop, X = fun q => V q ∨ q = rh := ⟨_, rfl⟩
  rw [← hV6] at hG
  have v_ob : V6 ro := by rw [hV6]; exact Or.inl v_ob
  have e_ob : ad2 ro = sx := (oo4 ro (by omega)).1.trans e_ob
  have k_ob : C3 ro = .inr (3, [.int (iI 0), .null]) := (oo4 ro (by omega)).2.trans k_ob
  have v_ha : V6 rh := by rw [hV6]; exact Or.inr rfl
  have hOa : ∀ q, (q ≠ rh) → ad2 q = ad q := fun q hq => (oo4 q (by omega)).1.trans (hOa q hq)
  have hOc : ∀ q, (q ≠ rh ∧ q ≠ ro) → C3 q = C q := fun q hq => (oo4 q (by omega)).2.trans (hOc q hq)
  refine a_putF (tyf := tyX3) hCK hnme hG hS ro e_ob v_ob k_ob (ci := 3) rfl in_X3 tyX3_ok nmX3 1 (by decide) q650 rfl rfl rfl rfl (Nat.le_of_ble_eq_true rfl) dX3_init_9 (fun C7 H locs kk8 oo9 hG hS => ?_)
  have k_ob : C7 ro = .inr (3, [.int (iI 0), .ref x1]) := kk8
  have k_ha : C7 rh = .inl (E 0, 10, ai (fun _ => 0)) := (oo9 rh (by omega)).trans k_ha
  have hOa : ∀ q, (q ≠ rh) → ad2 q = ad q := hOa
  have hOc : ∀ q, (q ≠ rh ∧ q ≠ ro) → C7 q = C q := fun q hq => (oo9 q (by omega)).trans (hOc q hq)
  refine lv_aload_n hx hb dX3_init_12 rfl (lv_at hl 0 rfl) ?_
  refine lv_iload_n hx hb dX3_init_13 rfl (lv_at hl 1 rfl) ?_
  refine a_putF (tyf := tyX3) hCK hnme hG hS ro e_ob v_ob k_ob (ci := 3) rfl in_X3 tyX3_ok nmX3 0 (by decide) q648 rfl rfl rfl rfl (Nat.le_of_ble_eq_true rfl) dX3_init_14 (fun C10 H locs kk11 oo12 hG hS => ?_)
  have k_ob : C10 ro = .inr (3, [.int (iI a0), .ref x1]) := kk11
  have k_ha : C10 rh = .inl (E 0, 10, ai (fun _ => 0)) := (oo12 rh (by omega)).trans k_ha
  have hOa : ∀ q, (q ≠ rh) → ad2 q = ad q := hOa
  have hOc : ∀ q, (q ≠ rh ∧ q ≠ ro) → C10 q = C q := fun q hq => (oo12 q (by omega)).trans (hOc q hq)
  exact a_vret hCK hQ hr hlk hG hS (by omega) (by omega) dX3_init_17 (⟨hV6, k_ha, by rw [e_ha]; exact k_ob, hOa, fun q h1 h2 => hOc q ⟨h1, h2⟩⟩)
