/-! THE READER: its constructor -/
set_option maxRecDepth 100000

theorem str_any {s : State} {H : Heap} {locs : List Loc} {adK adV st : Nat → Nat} {A : Nat → Prop} (hE : EV adK adV st A s) (hS : va_S A s.heap H locs) {i : Nat} (hi : i < 14) : va_Any "java/lang/String" s H (adK i) := by
  obtain ⟨cell, h1, h2, h3⟩ := e_rec hE hS hi
  obtain ⟨kC, hkC, -⟩ := Vm.findClass_spec h3
  refine ⟨cell, h1, h2, ⟨kC, hkC⟩, fun comp h => ?_⟩
  have e : comp = cell.cls := Option.some.inj (h.symm.trans h3)
  rw [e]
  exact va_asg _ _
theorem dX9_init_0 : decode cX9_init 0 = .ok (.aload_n 0, 1) := by decide +kernel
theorem dX9_init_1 : decode cX9_init 1 = .ok (.invokespecial 3, 3) := by decide +kernel
theorem dX9_init_4 : decode cX9_init 4 = .ok (.aload_n 0, 1) := by decide +kernel
theorem dX9_init_5 : decode cX9_init 5 = .ok (.iconst 2, 1) := by decide +kernel
theorem dX9_init_6 : decode cX9_init 6 = .ok (.anewarray 9, 3) := by decide +kernel
theorem dX9_init_9 : decode cX9_init 9 = .ok (.dup, 1) := by decide +kernel
theorem dX9_init_10 : decode cX9_init 10 = .ok (.iconst 0, 1) := by decide +kernel
theorem dX9_init_11 : decode cX9_init 11 = .ok (.ldc 11, 2) := by decide +kernel
theorem dX9_init_13 : decode cX9_init 13 = .ok (.aastore, 1) := by decide +kernel
theorem dX9_init_14 : decode cX9_init 14 = .ok (.dup, 1) := by decide +kernel
theorem dX9_init_15 : decode cX9_init 15 = .ok (.iconst 1, 1) := by decide +kernel
theorem dX9_init_16 : decode cX9_init 16 = .ok (.ldc 13, 2) := by decide +kernel
theorem dX9_init_18 : decode cX9_init 18 = .ok (.aastore, 1) := by decide +kernel
theorem dX9_init_19 : decode cX9_init 19 = .ok (.putfield 15, 3) := by decide +kernel
theorem dX9_init_22 : decode cX9_init 22 = .ok (.aload_n 0, 1) := by decide +kernel
theorem dX9_init_23 : decode cX9_init 23 = .ok (.bipush 7, 2) := by decide +kernel
theorem dX9_init_25 : decode cX9_init 25 = .ok (.anewarray 9, 3) := by decide +kernel
theorem dX9_init_28 : decode cX9_init 28 = .ok (.dup, 1) := by decide +kernel
theorem dX9_init_29 : decode cX9_init 29 = .ok (.iconst 0, 1) := by decide +kernel
theorem dX9_init_30 : decode cX9_init 30 = .ok (.ldc 21, 2) := by decide +kernel
theorem dX9_init_32 : decode cX9_init 32 = .ok (.aastore, 1) := by decide +kernel
theorem dX9_init_33 : decode cX9_init 33 = .ok (.dup, 1) := by decide +kernel
theorem dX9_init_34 : decode cX9_init 34 = .ok (.iconst 1, 1) := by decide +kernel
theorem dX9_init_35 : decode cX9_init 35 = .ok (.ldc 23, 2) := by decide +kernel
theorem dX9_init_37 : decode cX9_init 37 = .ok (.aastore, 1) := by decide +kernel
theorem dX9_init_38 : decode cX9_init 38 = .ok (.dup, 1) := by decide +kernel
theorem dX9_init_39 : decode cX9_init 39 = .ok (.iconst 2, 1) := by decide +kernel
theorem dX9_init_40 : decode cX9_init 40 = .ok (.ldc 25, 2) := by decide +kernel
theorem dX9_init_42 : decode cX9_init 42 = .ok (.aastore, 1) := by decide +kernel
theorem dX9_init_43 : decode cX9_init 43 = .ok (.dup, 1) := by decide +kernel
theorem dX9_init_44 : decode cX9_init 44 = .ok (.iconst 3, 1) := by decide +kernel
theorem dX9_init_45 : decode cX9_init 45 = .ok (.ldc 27, 2) := by decide +kernel
theorem dX9_init_47 : decode cX9_init 47 = .ok (.aastore, 1) := by decide +kernel
theorem dX9_init_48 : decode cX9_init 48 = .ok (.dup, 1) := by decide +kernel
theorem dX9_init_49 : decode cX9_init 49 = .ok (.iconst 4, 1) := by decide +kernel
theorem dX9_init_50 : decode cX9_init 50 = .ok (.ldc 29, 2) := by decide +kernel
theorem dX9_init_52 : decode cX9_init 52 = .ok (.aastore, 1) := by decide +kernel
theorem dX9_init_53 : decode cX9_init 53 = .ok (.dup, 1) := by decide +kernel
theorem dX9_init_54 : decode cX9_init 54 = .ok (.iconst 5, 1) := by decide +kernel
theorem dX9_init_55 : decode cX9_init 55 = .ok (.ldc 31, 2) := by decide +kernel
theorem dX9_init_57 : decode cX9_init 57 = .ok (.aastore, 1) := by decide +kernel
theorem dX9_init_58 : decode cX9_init 58 = .ok (.dup, 1) := by decide +kernel
theorem dX9_init_59 : decode cX9_init 59 = .ok (.bipush 6, 2) := by decide +kernel
theorem dX9_init_61 : decode cX9_init 61 = .ok (.ldc 33, 2) := by decide +kernel
theorem dX9_init_63 : decode cX9_init 63 = .ok (.aastore, 1) := by decide +kernel
theorem dX9_init_64 : decode cX9_init 64 = .ok (.putfield 35, 3) := by decide +kernel
theorem dX9_init_67 : decode cX9_init 67 = .ok (.aload_n 0, 1) := by decide +kernel
theorem dX9_init_68 : decode cX9_init 68 = .ok (.new 38, 3) := by decide +kernel
theorem dX9_init_71 : decode cX9_init 71 = .ok (.dup, 1) := by decide +kernel
theorem dX9_init_72 : decode cX9_init 72 = .ok (.bipush 8, 2) := by decide +kernel
theorem dX9_init_74 : decode cX9_init 74 = .ok (.invokespecial 40, 3) := by decide +kernel
theorem dX9_init_77 : decode cX9_init 77 = .ok (.putfield 43, 3) := by decide +kernel
theorem dX9_init_80 : decode cX9_init 80 = .ok (.aload_n 0, 1) := by decide +kernel
theorem dX9_init_81 : decode cX9_init 81 = .ok (.iconst 2, 1) := by decide +kernel
theorem dX9_init_82 : decode cX9_init 82 = .ok (.anewarray 47, 3) := by decide +kernel
theorem dX9_init_85 : decode cX9_init 85 = .ok (.putfield 49, 3) := by decide +kernel
theorem dX9_init_88 : decode cX9_init 88 = .ok (.aload_n 0, 1) := by decide +kernel
theorem dX9_init_89 : decode cX9_init 89 = .ok (.iconst (-1), 1) := by decide +kernel
theorem dX9_init_90 : decode cX9_init 90 = .ok (.putfield 53, 3) := by decide +kernel
theorem dX9_init_93 : decode cX9_init 93 = .ok (.aload_n 0, 1) := by decide +kernel
theorem dX9_init_94 : decode cX9_init 94 = .ok (.aload_n 1, 1) := by decide +kernel
theorem dX9_init_95 : decode cX9_init 95 = .ok (.putfield 57, 3) := by decide +kernel
theorem dX9_init_98 : decode cX9_init 98 = .ok (.aload_n 0, 1) := by decide +kernel
theorem dX9_init_99 : decode cX9_init 99 = .ok (.iload_n 2, 1) := by decide +kernel
theorem dX9_init_100 : decode cX9_init 100 = .ok (.putfield 61, 3) := by decide +kernel
theorem dX9_init_103 : decode cX9_init 103 = .ok (.return_, 1) := by decide +kernel
set_option maxHeartbeats 4000000 in
theorem met_rinit (l : Launch) (adK adV st : Nat → Nat) (D : va_G) (E : Nat → ClassId) (A : Nat → Prop) (V : Nat → Prop) (ad : Nat → Nat) (C : Nat → va_E) (rx tx : Nat) (n : Int) (v_ob : V 6000) (e_ob : ad 6000 = rx) (k_ob : C 6000 = .inr (8, [.null, .null, .null, .int (iI 0), .null, .null, .int (iI 0), .int (iI 0), .int (iI 0), .int (iI 0), .int (iI 0)])) : AM l yX9_init cX9_init 3 none (amr 4 5 22) adK adV st D E A [.ref rx, .ref tx, .int (iI n)] V ad C (AQv D E A (fun ad1 V1 C1 => (∀ q, V1 q ↔ (V q ∨ (6001 ≤ q ∧ q ≤ 6005))) ∧ (∀ q, (q < 6001 ∨ 6005 < q) → ad1 q = ad q) ∧ (∀ q, (q < 6000 ∨ 6005 < q) → C1 q = C q) ∧ C1 6000 = .inr (8, [.ref (ad1 6001), .ref (ad1 6002), .ref tx, .int (iI n), .ref (ad1 6003), .ref (ad1 6005), .int (iI 0), .int (iI 0), .int (iI 0), .int (iI 0), .int (iI (-1))]) ∧ C1 6001 = .inl (E 8, 2, ar (va_up (va_up (fun _ => none) 0 (some (adK 1))) 1 (some (adK 2)))) ∧ C1 6002 = .inl (E 8, 7, ar (va_up (va_up (va_up (va_up (va_up (va_up (va_up (fun _ => none) 0 (some (adK 3))) 1 (some (adK 4))) 2 (some (adK 5))) 3 (some (adK 6))) 4 (some (adK 7))) 5 (some (adK 8))) 6 (some (adK 9)))) ∧ C1 6003 = .inr (10, [.int (iI 0), .ref (ad1 6004), .int (iI 0)]) ∧ C1 6004 = .inl (E 5, 8, ar (fun _ => none)) ∧ C1 6005 = .inl (E 7, 2, ar (fun _ => none)))) 5 22 := by
  refine a_start (by decide) rfl (Nat.le_of_ble_eq_true rfl) ?_
  intro p e R s m args below meth c ls Q hR hQ hCK hml hr hlk hnme hG hS hE hA hl
  have hx := hCK.1
  have hb := hCK.2.1
  have hown := hCK.2.2.1
  have hts := hCK.2.2.2.1
  have hK := hCK.2.2.2.2
  have hl : lv_has ls 3 [(0, .ref rx), (1, .ref tx), (2, .int (iI n))] := hl
  have hOa : ∀ q, (q < 6001 ∨ 6005 < q) → ad q = ad q := fun _ _ => rfl
  have hOc : ∀ q, (q < 6000 ∨ 6005 < q) → C q = C q := fun _ _ => rfl
  refine lv_aload_n hx hb dX9_init_0 rfl (lv_at hl 0 rfl) ?_
  refine a_oini hCK (hml.trans hl.1.symm) q308 q98 q99 (by rw [hR]; decide) (by rw [hR]; decide) dX9_init_1 ?_
  refine lv_aload_n hx hb dX9_init_4 rfl (lv_at hl 0 rfl) ?_
  refine r_iconst hx hb dX9_init_5 ?_
  refine a_anew (t := 8) (N := 2) hCK hG hS hA 6001 q309 hE.2.2.2.2.2.1.2.1 rfl rfl (by decide) (by rw [hR]; show _ ≤ _; (try unfold amr); (try simp only []); omega) (by rw [hR]; show _ ≤ _; (try unfold amr); (try simp only []); omega) dX9_init_6 (fun x1 ad2 C3 H e_cw k_cw oo4 hG hS oh5 => ?_)
  obtain ⟨V6, hV6⟩ : ∃ X : Nat → Prop, X = fun q => V q ∨ q = 6001 := ⟨_, rfl⟩
  rw [← hV6] at hG
  have v_ob : V6 6000 := by rw [hV6]; exact Or.inl v_ob
  have e_ob : ad2 6000 = rx := (oo4 6000 (by omega)).1.trans e_ob
  have k_ob : C3 6000 = .inr (8, [.null, .null, .null, .int (iI 0), .null, .null, .int (iI 0), .int (iI 0), .int (iI 0), .int (iI 0), .int (iI 0)]) := (oo4 6000 (by omega)).2.trans k_ob
  have v_cw : V6 6001 := by rw [hV6]; exact Or.inr rfl
  have hOa : ∀ q, (q < 6001 ∨ 6005 < q) → ad2 q = ad q := fun q hq => (oo4 q (by omega)).1.trans (hOa q hq)
  have hOc : ∀ q, (q < 6000 ∨ 6005 < q) → C3 q = C q := fun q hq => (oo4 q (by omega)).2.trans (hOc q hq)
  refine lv_dup hx hb dX9_init_9 rfl ?_
  refine r_iconst hx hb dX9_init_10 ?_
  refine e_str hx hb hE (i := 1) rfl hown dX9_init_11 ?_
  refine a_ast hCK hG hS 6001 e_cw v_cw k_cw (t := 8) rfl (by decide) (by decide) (str_any hE hS (i := 1) (by decide)) dX9_init_13 (fun C7 H locs kk8 oo9 hG hS oq10 => ?_)
  have k_cw : C7 6001 = .inl (E 8, 2, ar (va_up (fun _ => none) 0 (some (adK 1)))) := kk8
  have k_ob : C7 6000 = .inr (8, [.null, .null, .null, .int (iI 0), .null, .null, .int (iI 0), .int (iI 0), .int (iI 0), .int (iI 0), .int (iI 0)]) := (oo9 6000 (by omega)).trans k_ob
  have hOa : ∀ q, (q < 6001 ∨ 6005 < q) → ad2 q = ad q := hOa
  have hOc : ∀ q, (q < 6000 ∨ 6005 < q) → C7 q = C q := fun q hq => (oo9 q (by omega)).trans (hOc q hq)
  refine lv_dup hx hb dX9_init_14 rfl ?_
  refine r_iconst hx hb dX9_init_15 ?_
  refine e_str hx hb hE (i := 2) rfl hown dX9_init_16 ?_
  refine a_ast hCK hG hS 6001 e_cw v_cw k_cw (t := 8) rfl (by decide) (by decide) (str_any hE hS (i := 2) (by decide)) dX9_init_18 (fun C11 H locs kk12 oo13 hG hS oq14 => ?_)
  have k_cw : C11 6001 = .inl (E 8, 2, ar (va_up (va_up (fun _ => none) 0 (some (adK 1))) 1 (some (adK 2)))) := kk12
  have k_ob : C11 6000 = .inr (8, [.null, .null, .null, .int (iI 0), .null, .null, .int (iI 0), .int (iI 0), .int (iI 0), .int (iI 0), .int (iI 0)]) := (oo13 6000 (by omega)).trans k_ob
  have hOa : ∀ q, (q < 6001 ∨ 6005 < q) → ad2 q = ad q := hOa
  have hOc : ∀ q, (q < 6000 ∨ 6005 < q) → C11 q = C q := fun q hq => (oo13 q (by omega)).trans (hOc q hq)
  refine a_putF (tyf := tyX9) hCK hnme hG hS 6000 e_ob v_ob k_ob (ci := 8) rfl in_X9 tyX9_ok nmX9 0 (by decide) q324 rfl rfl rfl rfl (Nat.le_of_ble_eq_true rfl) dX9_init_19 (fun C15 H locs kk16 oo17 hG hS => ?_)
  have k_ob : C15 6000 = .inr (8, [.ref x1, .null, .null, .int (iI 0), .null, .null, .int (iI 0), .int (iI 0), .int (iI 0), .int (iI 0), .int (iI 0)]) := kk16
  have k_cw : C15 6001 = .inl (E 8, 2, ar (va_up (va_up (fun _ => none) 0 (some (adK 1))) 1 (some (adK 2)))) := (oo17 6001 (by omega)).trans k_cw
  have hOa : ∀ q, (q < 6001 ∨ 6005 < q) → ad2 q = ad q := hOa
  have hOc : ∀ q, (q < 6000 ∨ 6005 < q) → C15 q = C q := fun q hq => (oo17 q (by omega)).trans (hOc q hq)
  refine lv_aload_n hx hb dX9_init_22 rfl (lv_at hl 0 rfl) ?_
  refine r_bipush hx hb dX9_init_23 (by decide) ?_
  refine a_anew (t := 8) (N := 7) hCK hG hS hA 6002 q309 hE.2.2.2.2.2.1.2.1 rfl rfl (by decide) (by rw [hR]; show _ ≤ _; (try unfold amr); (try simp only []); omega) (by rw [hR]; show _ ≤ _; (try unfold amr); (try simp only []); omega) dX9_init_25 (fun x18 ad19 C20 H e_nw k_nw oo21 hG hS oh22 => ?_)
  obtain ⟨V23, hV23⟩ : ∃ X : Nat → Prop, X = fun q => V6 q ∨ q = 6002 := ⟨_, rfl⟩
  rw [← hV23] at hG
  have v_ob : V23 6000 := by rw [hV23]; exact Or.inl v_ob
  have e_ob : ad19 6000 = rx := (oo21 6000 (by omega)).1.trans e_ob
  have k_ob : C20 6000 = .inr (8, [.ref x1, .null, .null, .int (iI 0), .null, .null, .int (iI 0), .int (iI 0), .int (iI 0), .int (iI 0), .int (iI 0)]) := (oo21 6000 (by omega)).2.trans k_ob
  have v_cw : V23 6001 := by rw [hV23]; exact Or.inl v_cw
  have e_cw : ad19 6001 = x1 := (oo21 6001 (by omega)).1.trans e_cw
  have k_cw : C20 6001 = .inl (E 8, 2, ar (va_up (va_up (fun _ => none) 0 (some (adK 1))) 1 (some (adK 2)))) := (oo21 6001 (by omega)).2.trans k_cw
  have v_nw : V23 6002 := by rw [hV23]; exact Or.inr rfl
  have hOa : ∀ q, (q < 6001 ∨ 6005 < q) → ad19 q = ad q := fun q hq => (oo21 q (by omega)).1.trans (hOa q hq)
  have hOc : ∀ q, (q < 6000 ∨ 6005 < q) → C20 q = C q := fun q hq => (oo21 q (by omega)).2.trans (hOc q hq)
  refine lv_dup hx hb dX9_init_28 rfl ?_
  refine r_iconst hx hb dX9_init_29 ?_
  refine e_str hx hb hE (i := 3) rfl hown dX9_init_30 ?_
  refine a_ast hCK hG hS 6002 e_nw v_nw k_nw (t := 8) rfl (by decide) (by decide) (str_any hE hS (i := 3) (by decide)) dX9_init_32 (fun C24 H locs kk25 oo26 hG hS oq27 => ?_)
  have k_nw : C24 6002 = .inl (E 8, 7, ar (va_up (fun _ => none) 0 (some (adK 3)))) := kk25
  have k_ob : C24 6000 = .inr (8, [.ref x1, .null, .null, .int (iI 0), .null, .null, .int (iI 0), .int (iI 0), .int (iI 0), .int (iI 0), .int (iI 0)]) := (oo26 6000 (by omega)).trans k_ob
  have k_cw : C24 6001 = .inl (E 8, 2, ar (va_up (va_up (fun _ => none) 0 (some (adK 1))) 1 (some (adK 2)))) := (oo26 6001 (by omega)).trans k_cw
  have hOa : ∀ q, (q < 6001 ∨ 6005 < q) → ad19 q = ad q := hOa
  have hOc : ∀ q, (q < 6000 ∨ 6005 < q) → C24 q = C q := fun q hq => (oo26 q (by omega)).trans (hOc q hq)
  refine lv_dup hx hb dX9_init_33 rfl ?_
  refine r_iconst hx hb dX9_init_34 ?_
  refine e_str hx hb hE (i := 4) rfl hown dX9_init_35 ?_
  refine a_ast hCK hG hS 6002 e_nw v_nw k_nw (t := 8) rfl (by decide) (by decide) (str_any hE hS (i := 4) (by decide)) dX9_init_37 (fun C28 H locs kk29 oo30 hG hS oq31 => ?_)
  have k_nw : C28 6002 = .inl (E 8, 7, ar (va_up (va_up (fun _ => none) 0 (some (adK 3))) 1 (some (adK 4)))) := kk29
  have k_ob : C28 6000 = .inr (8, [.ref x1, .null, .null, .int (iI 0), .null, .null, .int (iI 0), .int (iI 0), .int (iI 0), .int (iI 0), .int (iI 0)]) := (oo30 6000 (by omega)).trans k_ob
  have k_cw : C28 6001 = .inl (E 8, 2, ar (va_up (va_up (fun _ => none) 0 (some (adK 1))) 1 (some (adK 2)))) := (oo30 6001 (by omega)).trans k_cw
  have hOa : ∀ q, (q < 6001 ∨ 6005 < q) → ad19 q = ad q := hOa
  have hOc : ∀ q, (q < 6000 ∨ 6005 < q) → C28 q = C q := fun q hq => (oo30 q (by omega)).trans (hOc q hq)
  refine lv_dup hx hb dX9_init_38 rfl ?_
  refine r_iconst hx hb dX9_init_39 ?_
  refine e_str hx hb hE (i := 5) rfl hown dX9_init_40 ?_
  refine a_ast hCK hG hS 6002 e_nw v_nw k_nw (t := 8) rfl (by decide) (by decide) (str_any hE hS (i := 5) (by decide)) dX9_init_42 (fun C32 H locs kk33 oo34 hG hS oq35 => ?_)
  have k_nw : C32 6002 = .inl (E 8, 7, ar (va_up (va_up (va_up (fun _ => none) 0 (some (adK 3))) 1 (some (adK 4))) 2 (some (adK 5)))) := kk33
  have k_ob : C32 6000 = .inr (8, [.ref x1, .null, .null, .int (iI 0), .null, .null, .int (iI 0), .int (iI 0), .int (iI 0), .int (iI 0), .int (iI 0)]) := (oo34 6000 (by omega)).trans k_ob
  have k_cw : C32 6001 = .inl (E 8, 2, ar (va_up (va_up (fun _ => none) 0 (some (adK 1))) 1 (some (adK 2)))) := (oo34 6001 (by omega)).trans k_cw
  have hOa : ∀ q, (q < 6001 ∨ 6005 < q) → ad19 q = ad q := hOa
  have hOc : ∀ q, (q < 6000 ∨ 6005 < q) → C32 q = C q := fun q hq => (oo34 q (by omega)).trans (hOc q hq)
  refine lv_dup hx hb dX9_init_43 rfl ?_
  refine r_iconst hx hb dX9_init_44 ?_
  refine e_str hx hb hE (i := 6) rfl hown dX9_init_45 ?_
  refine a_ast hCK hG hS 6002 e_nw v_nw k_nw (t := 8) rfl (by decide) (by decide) (str_any hE hS (i := 6) (by decide)) dX9_init_47 (fun C36 H locs kk37 oo38 hG hS oq39 => ?_)
  have k_nw : C36 6002 = .inl (E 8, 7, ar (va_up (va_up (va_up (va_up (fun _ => none) 0 (some (adK 3))) 1 (some (adK 4))) 2 (some (adK 5))) 3 (some (adK 6)))) := kk37
  have k_ob : C36 6000 = .inr (8, [.ref x1, .null, .null, .int (iI 0), .null, .null, .int (iI 0), .int (iI 0), .int (iI 0), .int (iI 0), .int (iI 0)]) := (oo38 6000 (by omega)).trans k_ob
  have k_cw : C36 6001 = .inl (E 8, 2, ar (va_up (va_up (fun _ => none) 0 (some (adK 1))) 1 (some (adK 2)))) := (oo38 6001 (by omega)).trans k_cw
  have hOa : ∀ q, (q < 6001 ∨ 6005 < q) → ad19 q = ad q := hOa
  have hOc : ∀ q, (q < 6000 ∨ 6005 < q) → C36 q = C q := fun q hq => (oo38 q (by omega)).trans (hOc q hq)
  refine lv_dup hx hb dX9_init_48 rfl ?_
  refine r_iconst hx hb dX9_init_49 ?_
  refine e_str hx hb hE (i := 7) rfl hown dX9_init_50 ?_
  refine a_ast hCK hG hS 6002 e_nw v_nw k_nw (t := 8) rfl (by decide) (by decide) (str_any hE hS (i := 7) (by decide)) dX9_init_52 (fun C40 H locs kk41 oo42 hG hS oq43 => ?_)
  have k_nw : C40 6002 = .inl (E 8, 7, ar (va_up (va_up (va_up (va_up (va_up (fun _ => none) 0 (some (adK 3))) 1 (some (adK 4))) 2 (some (adK 5))) 3 (some (adK 6))) 4 (some (adK 7)))) := kk41
  have k_ob : C40 6000 = .inr (8, [.ref x1, .null, .null, .int (iI 0), .null, .null, .int (iI 0), .int (iI 0), .int (iI 0), .int (iI 0), .int (iI 0)]) := (oo42 6000 (by omega)).trans k_ob
  have k_cw : C40 6001 = .inl (E 8, 2, ar (va_up (va_up (fun _ => none) 0 (some (adK 1))) 1 (some (adK 2)))) := (oo42 6001 (by omega)).trans k_cw
  have hOa : ∀ q, (q < 6001 ∨ 6005 < q) → ad19 q = ad q := hOa
  have hOc : ∀ q, (q < 6000 ∨ 6005 < q) → C40 q = C q := fun q hq => (oo42 q (by omega)).trans (hOc q hq)
  refine lv_dup hx hb dX9_init_53 rfl ?_
  refine r_iconst hx hb dX9_init_54 ?_
  refine e_str hx hb hE (i := 8) rfl hown dX9_init_55 ?_
  refine a_ast hCK hG hS 6002 e_nw v_nw k_nw (t := 8) rfl (by decide) (by decide) (str_any hE hS (i := 8) (by decide)) dX9_init_57 (fun C44 H locs kk45 oo46 hG hS oq47 => ?_)
  have k_nw : C44 6002 = .inl (E 8, 7, ar (va_up (va_up (va_up (va_up (va_up (va_up (fun _ => none) 0 (some (adK 3))) 1 (some (adK 4))) 2 (some (adK 5))) 3 (some (adK 6))) 4 (some (adK 7))) 5 (some (adK 8)))) := kk45
  have k_ob : C44 6000 = .inr (8, [.ref x1, .null, .null, .int (iI 0), .null, .null, .int (iI 0), .int (iI 0), .int (iI 0), .int (iI 0), .int (iI 0)]) := (oo46 6000 (by omega)).trans k_ob
  have k_cw : C44 6001 = .inl (E 8, 2, ar (va_up (va_up (fun _ => none) 0 (some (adK 1))) 1 (some (adK 2)))) := (oo46 6001 (by omega)).trans k_cw
  have hOa : ∀ q, (q < 6001 ∨ 6005 < q) → ad19 q = ad q := hOa
  have hOc : ∀ q, (q < 6000 ∨ 6005 < q) → C44 q = C q := fun q hq => (oo46 q (by omega)).trans (hOc q hq)
  refine lv_dup hx hb dX9_init_58 rfl ?_
  refine r_bipush hx hb dX9_init_59 (by decide) ?_
  refine e_str hx hb hE (i := 9) rfl hown dX9_init_61 ?_
  refine a_ast hCK hG hS 6002 e_nw v_nw k_nw (t := 8) rfl (by decide) (by decide) (str_any hE hS (i := 9) (by decide)) dX9_init_63 (fun C48 H locs kk49 oo50 hG hS oq51 => ?_)
  have k_nw : C48 6002 = .inl (E 8, 7, ar (va_up (va_up (va_up (va_up (va_up (va_up (va_up (fun _ => none) 0 (some (adK 3))) 1 (some (adK 4))) 2 (some (adK 5))) 3 (some (adK 6))) 4 (some (adK 7))) 5 (some (adK 8))) 6 (some (adK 9)))) := kk49
  have k_ob : C48 6000 = .inr (8, [.ref x1, .null, .null, .int (iI 0), .null, .null, .int (iI 0), .int (iI 0), .int (iI 0), .int (iI 0), .int (iI 0)]) := (oo50 6000 (by omega)).trans k_ob
  have k_cw : C48 6001 = .inl (E 8, 2, ar (va_up (va_up (fun _ => none) 0 (some (adK 1))) 1 (some (adK 2)))) := (oo50 6001 (by omega)).trans k_cw
  have hOa : ∀ q, (q < 6001 ∨ 6005 < q) → ad19 q = ad q := hOa
  have hOc : ∀ q, (q < 6000 ∨ 6005 < q) → C48 q = C q := fun q hq => (oo50 q (by omega)).trans (hOc q hq)
  refine a_putF (tyf := tyX9) hCK hnme hG hS 6000 e_ob v_ob k_ob (ci := 8) rfl in_X9 tyX9_ok nmX9 1 (by decide) q325 rfl rfl rfl rfl (Nat.le_of_ble_eq_true rfl) dX9_init_64 (fun C52 H locs kk53 oo54 hG hS => ?_)
  have k_ob : C52 6000 = .inr (8, [.ref x1, .ref x18, .null, .int (iI 0), .null, .null, .int (iI 0), .int (iI 0), .int (iI 0), .int (iI 0), .int (iI 0)]) := kk53
  have k_cw : C52 6001 = .inl (E 8, 2, ar (va_up (va_up (fun _ => none) 0 (some (adK 1))) 1 (some (adK 2)))) := (oo54 6001 (by omega)).trans k_cw
  have k_nw : C52 6002 = .inl (E 8, 7, ar (va_up (va_up (va_up (va_up (va_up (va_up (va_up (fun _ => none) 0 (some (adK 3))) 1 (some (adK 4))) 2 (some (adK 5))) 3 (some (adK 6))) 4 (some (adK 7))) 5 (some (adK 8))) 6 (some (adK 9)))) := (oo54 6002 (by omega)).trans k_nw
  have hOa : ∀ q, (q < 6001 ∨ 6005 < q) → ad19 q = ad q := hOa
  have hOc : ∀ q, (q < 6000 ∨ 6005 < q) → C52 q = C q := fun q hq => (oo54 q (by omega)).trans (hOc q hq)
  refine lv_aload_n hx hb dX9_init_67 rfl (lv_at hl 0 rfl) ?_
  refine a_new (ci := 10) (fs := [.int (iI 0), .null, .int (iI 0)]) tyJ2 hCK hG hS hA 6003 in_J2 tyJ2_ok q320 q101 q71 rfl (by decide) (by rw [hR]; show _ ≤ _; (try unfold amr); (try simp only []); omega) (by rw [hR]; show _ ≤ _; (try unfold amr); (try simp only []); omega) dX9_init_68 (fun x55 ad56 C57 H e_li k_li oo60 hG hS oh61 => ?_)
  obtain ⟨V62, hV62⟩ : ∃ X : Nat → Prop, X = fun q => V23 q ∨ q = 6003 := ⟨_, rfl⟩
  rw [← hV62] at hG
  have v_ob : V62 6000 := by rw [hV62]; exact Or.inl v_ob
  have e_ob : ad56 6000 = rx := (oo60 6000 (by omega)).1.trans e_ob
  have k_ob : C57 6000 = .inr (8, [.ref x1, .ref x18, .null, .int (iI 0), .null, .null, .int (iI 0), .int (iI 0), .int (iI 0), .int (iI 0), .int (iI 0)]) := (oo60 6000 (by omega)).2.trans k_ob
  have v_cw : V62 6001 := by rw [hV62]; exact Or.inl v_cw
  have e_cw : ad56 6001 = x1 := (oo60 6001 (by omega)).1.trans e_cw
  have k_cw : C57 6001 = .inl (E 8, 2, ar (va_up (va_up (fun _ => none) 0 (some (adK 1))) 1 (some (adK 2)))) := (oo60 6001 (by omega)).2.trans k_cw
  have v_nw : V62 6002 := by rw [hV62]; exact Or.inl v_nw
  have e_nw : ad56 6002 = x18 := (oo60 6002 (by omega)).1.trans e_nw
  have k_nw : C57 6002 = .inl (E 8, 7, ar (va_up (va_up (va_up (va_up (va_up (va_up (va_up (fun _ => none) 0 (some (adK 3))) 1 (some (adK 4))) 2 (some (adK 5))) 3 (some (adK 6))) 4 (some (adK 7))) 5 (some (adK 8))) 6 (some (adK 9)))) := (oo60 6002 (by omega)).2.trans k_nw
  have v_li : V62 6003 := by rw [hV62]; exact Or.inr rfl
  have hOa : ∀ q, (q < 6001 ∨ 6005 < q) → ad56 q = ad q := fun q hq => (oo60 q (by omega)).1.trans (hOa q hq)
  have hOc : ∀ q, (q < 6000 ∨ 6005 < q) → C57 q = C q := fun q hq => (oo60 q (by omega)).2.trans (hOc q hq)
  refine lv_dup hx hb dX9_init_71 rfl ?_
  refine r_bipush hx hb dX9_init_72 (by decide) ?_
  have hM := met_linit l adK adV st D E A V62 ad56 C57 6003 x55 0 0 v_li e_li k_li 6004 (by omega) 8 8 rfl (by decide)
  refine a_callv (a_runI (n := 1) (b := x55) (rest := [.ref x55, .ref rx]) (as := [.int (iI 8)]) hCK hE hA hml (hM) q321 q103 q71 q104 rfl (by decide +kernel) ⟨rfl, rfl⟩ hR ⟨Nat.le_of_ble_eq_true rfl, Nat.le_of_ble_eq_true rfl⟩ ⟨(by rw [hR]; show _ ≤ _; (try unfold amr); (try simp only []); omega), (by rw [hR]; show _ ≤ _; (try unfold amr); (try simp only []); omega)⟩ hG hS rfl hl.1 rfl (Nat.le_of_ble_eq_true rfl) dX9_init_74) hS (fun ad64 V65 C66 H locs hp67 hG hS => ?_)
  obtain ⟨hV68, k_ar, k_li, oo69, oo70⟩ := hp67
  obtain ⟨x71, e_ar⟩ : ∃ y, ad64 6004 = y := ⟨_, rfl⟩
  rw [e_ar] at k_li
  have v_ob : V65 6000 := by rw [hV68]; exact Or.inl v_ob
  have e_ob : ad64 6000 = rx := (oo69 6000 (by omega)).trans e_ob
  have k_ob : C66 6000 = .inr (8, [.ref x1, .ref x18, .null, .int (iI 0), .null, .null, .int (iI 0), .int (iI 0), .int (iI 0), .int (iI 0), .int (iI 0)]) := (oo70 6000 (by omega) (by omega)).trans k_ob
  have v_cw : V65 6001 := by rw [hV68]; exact Or.inl v_cw
  have e_cw : ad64 6001 = x1 := (oo69 6001 (by omega)).trans e_cw
  have k_cw : C66 6001 = .inl (E 8, 2, ar (va_up (va_up (fun _ => none) 0 (some (adK 1))) 1 (some (adK 2)))) := (oo70 6001 (by omega) (by omega)).trans k_cw
  have v_nw : V65 6002 := by rw [hV68]; exact Or.inl v_nw
  have e_nw : ad64 6002 = x18 := (oo69 6002 (by omega)).trans e_nw
  have k_nw : C66 6002 = .inl (E 8, 7, ar (va_up (va_up (va_up (va_up (va_up (va_up (va_up (fun _ => none) 0 (some (adK 3))) 1 (some (adK 4))) 2 (some (adK 5))) 3 (some (adK 6))) 4 (some (adK 7))) 5 (some (adK 8))) 6 (some (adK 9)))) := (oo70 6002 (by omega) (by omega)).trans k_nw
  have v_li : V65 6003 := by rw [hV68]; exact Or.inl v_li
  have e_li : ad64 6003 = x55 := (oo69 6003 (by omega)).trans e_li
  have v_ar : V65 6004 := by rw [hV68]; exact Or.inr rfl
  have hOa : ∀ q, (q < 6001 ∨ 6005 < q) → ad64 q = ad q := fun q hq => (oo69 q (by omega)).trans (hOa q hq)
  have hOc : ∀ q, (q < 6000 ∨ 6005 < q) → C66 q = C q := fun q hq => (oo70 q (by omega) (by omega)).trans (hOc q hq)
  refine a_putF (tyf := tyX9) hCK hnme hG hS 6000 e_ob v_ob k_ob (ci := 8) rfl in_X9 tyX9_ok nmX9 4 (by decide) q328 rfl rfl rfl rfl (Nat.le_of_ble_eq_true rfl) dX9_init_77 (fun C72 H locs kk73 oo74 hG hS => ?_)
  have k_ob : C72 6000 = .inr (8, [.ref x1, .ref x18, .null, .int (iI 0), .ref x55, .null, .int (iI 0), .int (iI 0), .int (iI 0), .int (iI 0), .int (iI 0)]) := kk73
  have k_cw : C72 6001 = .inl (E 8, 2, ar (va_up (va_up (fun _ => none) 0 (some (adK 1))) 1 (some (adK 2)))) := (oo74 6001 (by omega)).trans k_cw
  have k_nw : C72 6002 = .inl (E 8, 7, ar (va_up (va_up (va_up (va_up (va_up (va_up (va_up (fun _ => none) 0 (some (adK 3))) 1 (some (adK 4))) 2 (some (adK 5))) 3 (some (adK 6))) 4 (some (adK 7))) 5 (some (adK 8))) 6 (some (adK 9)))) := (oo74 6002 (by omega)).trans k_nw
  have k_li : C72 6003 = .inr (10, [.int (iI 0), .ref x71, .int (iI 0)]) := (oo74 6003 (by omega)).trans k_li
  have k_ar : C72 6004 = .inl (E 5, 8, ar (fun _ => none)) := (oo74 6004 (by omega)).trans k_ar
  have hOa : ∀ q, (q < 6001 ∨ 6005 < q) → ad64 q = ad q := hOa
  have hOc : ∀ q, (q < 6000 ∨ 6005 < q) → C72 q = C q := fun q hq => (oo74 q (by omega)).trans (hOc q hq)
  refine lv_aload_n hx hb dX9_init_80 rfl (lv_at hl 0 rfl) ?_
  refine r_iconst hx hb dX9_init_81 ?_
  refine a_anewA (t := 7) (N := 2) hCK hG hS hA 6005 (by decide) q322 (show (Cond.arrayOver _).before args s = true from hE.2.2.2.2.2.1.2.2.2.2) rfl rfl (by decide) (by rw [hR]; show _ ≤ _; (try unfold amr); (try simp only []); omega) (by rw [hR]; show _ ≤ _; (try unfold amr); (try simp only []); omega) dX9_init_82 (fun x75 ad76 C77 H e_kc k_kc oo78 hG hS oh79 => ?_)
  obtain ⟨V80, hV80⟩ : ∃ X : Nat → Prop, X = fun q => V65 q ∨ q = 6005 := ⟨_, rfl⟩
  rw [← hV80] at hG
  have v_ob : V80 6000 := by rw [hV80]; exact Or.inl v_ob
  have e_ob : ad76 6000 = rx := (oo78 6000 (by omega)).1.trans e_ob
  have k_ob : C77 6000 = .inr (8, [.ref x1, .ref x18, .null, .int (iI 0), .ref x55, .null, .int (iI 0), .int (iI 0), .int (iI 0), .int (iI 0), .int (iI 0)]) := (oo78 6000 (by omega)).2.trans k_ob
  have v_cw : V80 6001 := by rw [hV80]; exact Or.inl v_cw
  have e_cw : ad76 6001 = x1 := (oo78 6001 (by omega)).1.trans e_cw
  have k_cw : C77 6001 = .inl (E 8, 2, ar (va_up (va_up (fun _ => none) 0 (some (adK 1))) 1 (some (adK 2)))) := (oo78 6001 (by omega)).2.trans k_cw
  have v_nw : V80 6002 := by rw [hV80]; exact Or.inl v_nw
  have e_nw : ad76 6002 = x18 := (oo78 6002 (by omega)).1.trans e_nw
  have k_nw : C77 6002 = .inl (E 8, 7, ar (va_up (va_up (va_up (va_up (va_up (va_up (va_up (fun _ => none) 0 (some (adK 3))) 1 (some (adK 4))) 2 (some (adK 5))) 3 (some (adK 6))) 4 (some (adK 7))) 5 (some (adK 8))) 6 (some (adK 9)))) := (oo78 6002 (by omega)).2.trans k_nw
  have v_li : V80 6003 := by rw [hV80]; exact Or.inl v_li
  have e_li : ad76 6003 = x55 := (oo78 6003 (by omega)).1.trans e_li
  have k_li : C77 6003 = .inr (10, [.int (iI 0), .ref x71, .int (iI 0)]) := (oo78 6003 (by omega)).2.trans k_li
  have v_ar : V80 6004 := by rw [hV80]; exact Or.inl v_ar
  have e_ar : ad76 6004 = x71 := (oo78 6004 (by omega)).1.trans e_ar
  have k_ar : C77 6004 = .inl (E 5, 8, ar (fun _ => none)) := (oo78 6004 (by omega)).2.trans k_ar
  have v_kc : V80 6005 := by rw [hV80]; exact Or.inr rfl
  have hOa : ∀ q, (q < 6001 ∨ 6005 < q) → ad76 q = ad q := fun q hq => (oo78 q (by omega)).1.trans (hOa q hq)
  have hOc : ∀ q, (q < 6000 ∨ 6005 < q) → C77 q = C q := fun q hq => (oo78 q (by omega)).2.trans (hOc q hq)
  refine a_putF (tyf := tyX9) hCK hnme hG hS 6000 e_ob v_ob k_ob (ci := 8) rfl in_X9 tyX9_ok nmX9 5 (by decide) q329 rfl rfl rfl rfl (Nat.le_of_ble_eq_true rfl) dX9_init_85 (fun C81 H locs kk82 oo83 hG hS => ?_)
  have k_ob : C81 6000 = .inr (8, [.ref x1, .ref x18, .null, .int (iI 0), .ref x55, .ref x75, .int (iI 0), .int (iI 0), .int (iI 0), .int (iI 0), .int (iI 0)]) := kk82
  have k_cw : C81 6001 = .inl (E 8, 2, ar (va_up (va_up (fun _ => none) 0 (some (adK 1))) 1 (some (adK 2)))) := (oo83 6001 (by omega)).trans k_cw
  have k_nw : C81 6002 = .inl (E 8, 7, ar (va_up (va_up (va_up (va_up (va_up (va_up (va_up (fun _ => none) 0 (some (adK 3))) 1 (some (adK 4))) 2 (some (adK 5))) 3 (some (adK 6))) 4 (some (adK 7))) 5 (some (adK 8))) 6 (some (adK 9)))) := (oo83 6002 (by omega)).trans k_nw
  have k_li : C81 6003 = .inr (10, [.int (iI 0), .ref x71, .int (iI 0)]) := (oo83 6003 (by omega)).trans k_li
  have k_ar : C81 6004 = .inl (E 5, 8, ar (fun _ => none)) := (oo83 6004 (by omega)).trans k_ar
  have k_kc : C81 6005 = .inl (E 7, 2, ar (fun _ => none)) := (oo83 6005 (by omega)).trans k_kc
  have hOa : ∀ q, (q < 6001 ∨ 6005 < q) → ad76 q = ad q := hOa
  have hOc : ∀ q, (q < 6000 ∨ 6005 < q) → C81 q = C q := fun q hq => (oo83 q (by omega)).trans (hOc q hq)
  refine lv_aload_n hx hb dX9_init_88 rfl (lv_at hl 0 rfl) ?_
  refine r_iconst hx hb dX9_init_89 ?_
  refine a_put (tyf := tyX9) hCK hG hS 6000 e_ob v_ob k_ob (ci := 8) rfl in_X9 tyX9_ok nmX9 10 (by decide) q334 rfl rfl rfl rfl (Nat.le_of_ble_eq_true rfl) dX9_init_90 (fun C84 H locs kk85 oo86 hG hS => ?_)
  have k_ob : C84 6000 = .inr (8, [.ref x1, .ref x18, .null, .int (iI 0), .ref x55, .ref x75, .int (iI 0), .int (iI 0), .int (iI 0), .int (iI 0), .int (iI (-1))]) := kk85
  have k_cw : C84 6001 = .inl (E 8, 2, ar (va_up (va_up (fun _ => none) 0 (some (adK 1))) 1 (some (adK 2)))) := (oo86 6001 (by omega)).trans k_cw
  have k_nw : C84 6002 = .inl (E 8, 7, ar (va_up (va_up (va_up (va_up (va_up (va_up (va_up (fun _ => none) 0 (some (adK 3))) 1 (some (adK 4))) 2 (some (adK 5))) 3 (some (adK 6))) 4 (some (adK 7))) 5 (some (adK 8))) 6 (some (adK 9)))) := (oo86 6002 (by omega)).trans k_nw
  have k_li : C84 6003 = .inr (10, [.int (iI 0), .ref x71, .int (iI 0)]) := (oo86 6003 (by omega)).trans k_li
  have k_ar : C84 6004 = .inl (E 5, 8, ar (fun _ => none)) := (oo86 6004 (by omega)).trans k_ar
  have k_kc : C84 6005 = .inl (E 7, 2, ar (fun _ => none)) := (oo86 6005 (by omega)).trans k_kc
  have hOa : ∀ q, (q < 6001 ∨ 6005 < q) → ad76 q = ad q := hOa
  have hOc : ∀ q, (q < 6000 ∨ 6005 < q) → C84 q = C q := fun q hq => (oo86 q (by omega)).trans (hOc q hq)
  refine lv_aload_n hx hb dX9_init_93 rfl (lv_at hl 0 rfl) ?_
  refine lv_aload_n hx hb dX9_init_94 rfl (lv_at hl 1 rfl) ?_
  refine a_putF (tyf := tyX9) hCK hnme hG hS 6000 e_ob v_ob k_ob (ci := 8) rfl in_X9 tyX9_ok nmX9 2 (by decide) q326 rfl rfl rfl rfl (Nat.le_of_ble_eq_true rfl) dX9_init_95 (fun C87 H locs kk88 oo89 hG hS => ?_)
  have k_ob : C87 6000 = .inr (8, [.ref x1, .ref x18, .ref tx, .int (iI 0), .ref x55, .ref x75, .int (iI 0), .int (iI 0), .int (iI 0), .int (iI 0), .int (iI (-1))]) := kk88
  have k_cw : C87 6001 = .inl (E 8, 2, ar (va_up (va_up (fun _ => none) 0 (some (adK 1))) 1 (some (adK 2)))) := (oo89 6001 (by omega)).trans k_cw
  have k_nw : C87 6002 = .inl (E 8, 7, ar (va_up (va_up (va_up (va_up (va_up (va_up (va_up (fun _ => none) 0 (some (adK 3))) 1 (some (adK 4))) 2 (some (adK 5))) 3 (some (adK 6))) 4 (some (adK 7))) 5 (some (adK 8))) 6 (some (adK 9)))) := (oo89 6002 (by omega)).trans k_nw
  have k_li : C87 6003 = .inr (10, [.int (iI 0), .ref x71, .int (iI 0)]) := (oo89 6003 (by omega)).trans k_li
  have k_ar : C87 6004 = .inl (E 5, 8, ar (fun _ => none)) := (oo89 6004 (by omega)).trans k_ar
  have k_kc : C87 6005 = .inl (E 7, 2, ar (fun _ => none)) := (oo89 6005 (by omega)).trans k_kc
  have hOa : ∀ q, (q < 6001 ∨ 6005 < q) → ad76 q = ad q := hOa
  have hOc : ∀ q, (q < 6000 ∨ 6005 < q) → C87 q = C q := fun q hq => (oo89 q (by omega)).trans (hOc q hq)
  refine lv_aload_n hx hb dX9_init_98 rfl (lv_at hl 0 rfl) ?_
  refine lv_iload_n hx hb dX9_init_99 rfl (lv_at hl 2 rfl) ?_
  refine a_putF (tyf := tyX9) hCK hnme hG hS 6000 e_ob v_ob k_ob (ci := 8) rfl in_X9 tyX9_ok nmX9 3 (by decide) q327 rfl rfl rfl rfl (Nat.le_of_ble_eq_true rfl) dX9_init_100 (fun C90 H locs kk91 oo92 hG hS => ?_)
  have k_ob : C90 6000 = .inr (8, [.ref x1, .ref x18, .ref tx, .int (iI n), .ref x55, .ref x75, .int (iI 0), .int (iI 0), .int (iI 0), .int (iI 0), .int (iI (-1))]) := kk91
  have k_cw : C90 6001 = .inl (E 8, 2, ar (va_up (va_up (fun _ => none) 0 (some (adK 1))) 1 (some (adK 2)))) := (oo92 6001 (by omega)).trans k_cw
  have k_nw : C90 6002 = .inl (E 8, 7, ar (va_up (va_up (va_up (va_up (va_up (va_up (va_up (fun _ => none) 0 (some (adK 3))) 1 (some (adK 4))) 2 (some (adK 5))) 3 (some (adK 6))) 4 (some (adK 7))) 5 (some (adK 8))) 6 (some (adK 9)))) := (oo92 6002 (by omega)).trans k_nw
  have k_li : C90 6003 = .inr (10, [.int (iI 0), .ref x71, .int (iI 0)]) := (oo92 6003 (by omega)).trans k_li
  have k_ar : C90 6004 = .inl (E 5, 8, ar (fun _ => none)) := (oo92 6004 (by omega)).trans k_ar
  have k_kc : C90 6005 = .inl (E 7, 2, ar (fun _ => none)) := (oo92 6005 (by omega)).trans k_kc
  have hOa : ∀ q, (q < 6001 ∨ 6005 < q) → ad76 q = ad q := hOa
  have hOc : ∀ q, (q < 6000 ∨ 6005 < q) → C90 q = C q := fun q hq => (oo92 q (by omega)).trans (hOc q hq)
  have hVV : ∀ q, V80 q ↔ (V q ∨ (6001 ≤ q ∧ q ≤ 6005)) := by
    intro q
    rw [hV80, hV68, hV62, hV23, hV6]
    constructor
    · intro h
      rcases h with ((((h | h) | h) | h) | h) | h
      · exact Or.inl h
      all_goals exact Or.inr (by omega)
    · intro h
      rcases h with h | h
      · exact Or.inl (Or.inl (Or.inl (Or.inl (Or.inl h))))
      · rcases (show q = 6001 ∨ q = 6002 ∨ q = 6003 ∨ q = 6004 ∨ q = 6005 by omega) with h | h | h | h | h
        · exact Or.inl (Or.inl (Or.inl (Or.inl (Or.inr h))))
        · exact Or.inl (Or.inl (Or.inl (Or.inr h)))
        · exact Or.inl (Or.inl (Or.inr h))
        · exact Or.inl (Or.inr h)
        · exact Or.inr h
  exact a_vret hCK hQ hr hlk hG hS (by omega) (by omega) dX9_init_103 (⟨hVV, hOa, hOc, by rw [e_cw, e_nw, e_li, e_kc]; exact k_ob, k_cw, k_nw, by rw [e_ar]; exact k_li, k_ar, k_kc⟩)
