/-! THE READER: words, passes, puts -/
set_option maxRecDepth 100000
theorem dX9_isWord_0 : decode cX9_isWord 0 = .ok (.aload_n 0, 1) := by decide +kernel
theorem dX9_isWord_1 : decode cX9_isWord 1 = .ok (.getfield 70, 3) := by decide +kernel
theorem dX9_isWord_4 : decode cX9_isWord 4 = .ok (.iconst 1, 1) := by decide +kernel
theorem dX9_isWord_5 : decode cX9_isWord 5 = .ok (.if_icmp .ne 19, 3) := by decide +kernel
theorem dX9_isWord_8 : decode cX9_isWord 8 = .ok (.aload_n 0, 1) := by decide +kernel
theorem dX9_isWord_9 : decode cX9_isWord 9 = .ok (.getfield 64, 3) := by decide +kernel
theorem dX9_isWord_12 : decode cX9_isWord 12 = .ok (.aload_n 0, 1) := by decide +kernel
theorem dX9_isWord_13 : decode cX9_isWord 13 = .ok (.getfield 67, 3) := by decide +kernel
theorem dX9_isWord_16 : decode cX9_isWord 16 = .ok (.isub, 1) := by decide +kernel
theorem dX9_isWord_17 : decode cX9_isWord 17 = .ok (.aload_n 1, 1) := by decide +kernel
theorem dX9_isWord_18 : decode cX9_isWord 18 = .ok (.invokevirtual 94, 3) := by decide +kernel
theorem dX9_isWord_21 : decode cX9_isWord 21 = .ok (.if_icmp .eq 5, 3) := by decide +kernel
theorem dX9_isWord_24 : decode cX9_isWord 24 = .ok (.iconst 0, 1) := by decide +kernel
theorem dX9_isWord_25 : decode cX9_isWord 25 = .ok (.ireturn, 1) := by decide +kernel
theorem dX9_isWord_26 : decode cX9_isWord 26 = .ok (.iconst 0, 1) := by decide +kernel
theorem dX9_isWord_27 : decode cX9_isWord 27 = .ok (.istore_n 2, 1) := by decide +kernel
theorem dX9_isWord_28 : decode cX9_isWord 28 = .ok (.iload_n 2, 1) := by decide +kernel
theorem dX9_isWord_29 : decode cX9_isWord 29 = .ok (.aload_n 1, 1) := by decide +kernel
theorem dX9_isWord_30 : decode cX9_isWord 30 = .ok (.invokevirtual 94, 3) := by decide +kernel
theorem dX9_isWord_33 : decode cX9_isWord 33 = .ok (.if_icmp .ge 30, 3) := by decide +kernel
theorem dX9_isWord_36 : decode cX9_isWord 36 = .ok (.aload_n 0, 1) := by decide +kernel
theorem dX9_isWord_37 : decode cX9_isWord 37 = .ok (.getfield 57, 3) := by decide +kernel
theorem dX9_isWord_40 : decode cX9_isWord 40 = .ok (.aload_n 0, 1) := by decide +kernel
theorem dX9_isWord_41 : decode cX9_isWord 41 = .ok (.getfield 67, 3) := by decide +kernel
theorem dX9_isWord_44 : decode cX9_isWord 44 = .ok (.iload_n 2, 1) := by decide +kernel
theorem dX9_isWord_45 : decode cX9_isWord 45 = .ok (.iadd, 1) := by decide +kernel
theorem dX9_isWord_46 : decode cX9_isWord 46 = .ok (.baload, 1) := by decide +kernel
theorem dX9_isWord_47 : decode cX9_isWord 47 = .ok (.aload_n 1, 1) := by decide +kernel
theorem dX9_isWord_48 : decode cX9_isWord 48 = .ok (.iload_n 2, 1) := by decide +kernel
theorem dX9_isWord_49 : decode cX9_isWord 49 = .ok (.invokevirtual 97, 3) := by decide +kernel
theorem dX9_isWord_52 : decode cX9_isWord 52 = .ok (.if_icmp .eq 5, 3) := by decide +kernel
theorem dX9_isWord_55 : decode cX9_isWord 55 = .ok (.iconst 0, 1) := by decide +kernel
theorem dX9_isWord_56 : decode cX9_isWord 56 = .ok (.ireturn, 1) := by decide +kernel
theorem dX9_isWord_57 : decode cX9_isWord 57 = .ok (.iinc 2 1, 3) := by decide +kernel
theorem dX9_isWord_60 : decode cX9_isWord 60 = .ok (.goto (-32), 3) := by decide +kernel
theorem dX9_isWord_63 : decode cX9_isWord 63 = .ok (.iconst 1, 1) := by decide +kernel
theorem dX9_isWord_64 : decode cX9_isWord 64 = .ok (.ireturn, 1) := by decide +kernel
set_option maxHeartbeats 4000000 in
theorem met_isw (l : Launch) (adK adV st : Nat → Nat) (D : va_G) (E : Nat → ClassId) (A : Nat → Prop) (V : Nat → Prop) (ad : Nat → Nat) (C : Nat → va_E) (i : Nat) (hi : i < 14) (x : Int → Int) (n k fr to vl fa : Int) (hn : 0 ≤ n ∧ n ≤ 300) (hbx : Bd x 300 (-128) 127) (v_rd : V 6000) (k_rd : C 6000 = .inr (8, [.ref (ad 6001), .ref (ad 6002), .ref (ad 1), .int (iI n), .ref (ad 6003), .ref (ad 6005), .int (iI k), .int (iI fr), .int (iI to), .int (iI vl), .int (iI fa)])) (v_tx : V 1) (k_tx : C 1 = .inl (E 1, 300, ai x)) (hft : 0 ≤ fr ∧ fr ≤ to ∧ to ≤ n) (r_k : R32 k) : AM l yX9_isWord cX9_isWord 3 (some .boolean) (amr 4 0 0) adK adV st D E A [.ref (ad 6000), .ref (adK i)] V ad C (AQi D E A (fun z ad1 V1 C1 => (if k = 1 ∧ isW x fr to i = true then 1 else 0) = z ∧ ad = ad1 ∧ V = V1 ∧ C = C1)) 0 0 := by
  refine a_start (by decide) rfl (Nat.le_of_ble_eq_true rfl) ?_
  intro p e R s m args below meth c ls Q hR hQ hCK hml hr hlk hnme hG hS hE hA hl
  have hx := hCK.1
  have hb := hCK.2.1
  have hown := hCK.2.2.1
  have hts := hCK.2.2.2.1
  have hK := hCK.2.2.2.2
  have hl : lv_has ls 3 [(0, .ref (ad 6000)), (1, .ref (adK i))] := hl
  have e_rd : ad 6000 = (ad 6000) := rfl
  have e_tx : ad 1 = (ad 1) := rfl
  have hs := sLn_bd i
  refine lv_aload_n hx hb dX9_isWord_0 rfl (lv_at hl 0 rfl) ?_
  refine a_get hCK hG 6000 e_rd v_rd k_rd (ci := 8) rfl in_X9 6 (by decide) q330 rfl rfl dX9_isWord_1 ?_
  refine W.eq (g2 := F0 m 4 ls [.int (iI k)]) rfl ?_
  refine r_iconst hx hb dX9_isWord_4 ?_
  refine r_icmp_ne (tgt := 24) hx hb dX9_isWord_5 (by decide) r_k (by decide) (fun c1 => ?_) (fun c1 => ?_)
  · refine r_iconst hx hb dX9_isWord_24 ?_
    exact a_zret hCK hQ hr hlk hG hS (by omega) (by omega) (by decide) dX9_isWord_25 (⟨if_neg (by omega), rfl, rfl, rfl⟩)
  · refine lv_aload_n hx hb dX9_isWord_8 rfl (lv_at hl 0 rfl) ?_
    refine a_get hCK hG 6000 e_rd v_rd k_rd (ci := 8) rfl in_X9 8 (by decide) q332 rfl rfl dX9_isWord_9 ?_
    refine W.eq (g2 := F0 m 12 ls [.int (iI to)]) rfl ?_
    refine lv_aload_n hx hb dX9_isWord_12 rfl (lv_at hl 0 rfl) ?_
    refine a_get hCK hG 6000 e_rd v_rd k_rd (ci := 8) rfl in_X9 7 (by decide) q331 rfl rfl dX9_isWord_13 ?_
    refine W.eq (g2 := F0 m 16 ls [.int (iI fr), .int (iI to)]) rfl ?_
    refine r_isub hx hb dX9_isWord_16 ?_
    refine lv_aload_n hx hb dX9_isWord_17 rfl (lv_at hl 1 rfl) ?_
    refine s_calli (j_runV (n := 0) (C := RJ8) (b := adK i) (rest := [.int (iI (to - fr))]) (as := []) hx hb hml hown hts (met_strlen l adK adV st A i hi) EV.blind (hE.at hS) (e_rec hE hS hi) q473 q392 q393 q87 q394 (by decide +kernel) ⟨rfl, rfl⟩ hR ⟨Nat.le_of_ble_eq_true rfl, Nat.le_of_ble_eq_true rfl⟩ ⟨Nat.zero_le _, Nat.zero_le _⟩ rfl hl.1 rfl (Nat.le_of_ble_eq_true rfl) dX9_isWord_18) ?_
    refine r_icmp_eq (tgt := 26) hx hb dX9_isWord_21 (by decide) (by omega) (by omega) (fun c2 => ?_) (fun c2 => ?_)
    · refine r_iconst hx hb dX9_isWord_26 ?_
      refine lv_istore_n (lv' := [(2, .int (iI 0)), (0, .ref (ad 6000)), (1, .ref (adK i))]) hx hb dX9_isWord_27 rfl hl (by decide) rfl (fun ls hl => ?_)
      have loop28_3 : ∀ (nd : Nat) (j : Int) (Vg : Nat → Prop) (adg : Nat → Nat) (Cg : Nat → va_E), sLn i - j < (nd : Int) → (Vg 6000) → (adg 6000 = (ad 6000)) → (Cg 6000 = .inr (8, [.ref (ad 6001), .ref (ad 6002), .ref (ad 1), .int (iI n), .ref (ad 6003), .ref (ad 6005), .int (iI k), .int (iI fr), .int (iI to), .int (iI vl), .int (iI fa)])) → (Vg 1) → (adg 1 = (ad 1)) → (Cg 1 = .inl (E 1, 300, ai x)) → (0 ≤ j ∧ j ≤ sLn i) → (eqN x fr i j.toNat = true) → (V = Vg) → (ad = adg) → (C = Cg) → ∀ (H : Heap) (locs : List Loc) (ls : Array Slot), GW D A Vg adg Cg H → va_S A s.heap H locs → lv_has ls 3 [(2, .int (iI j)), (0, .ref (ad 6000)), (1, .ref (adK i))] → W p l e R s m args below meth c H locs 0 0 Q (F0 m 28 ls []) := by
        intro nd
        induction nd with
        | zero => intro j Vg adg Cg hn5 v_rd e_rd k_rd v_tx e_tx k_tx hj eq0 eV ea ec; exfalso; omega
        | succ nd ih4 =>
          intro j Vg adg Cg hn5 v_rd e_rd k_rd v_tx e_tx k_tx hj eq0 eV ea ec H locs ls hG hS hl
          subst eV
          subst ea
          subst ec
          refine lv_iload_n hx hb dX9_isWord_28 rfl (lv_at hl 0 rfl) ?_
          refine lv_aload_n hx hb dX9_isWord_29 rfl (lv_at hl 2 rfl) ?_
          refine s_calli (j_runV (n := 0) (C := RJ8) (b := adK i) (rest := [.int (iI j)]) (as := []) hx hb hml hown hts (met_strlen l adK adV st A i hi) EV.blind (hE.at hS) (e_rec hE hS hi) q473 q392 q393 q87 q394 (by decide +kernel) ⟨rfl, rfl⟩ hR ⟨Nat.le_of_ble_eq_true rfl, Nat.le_of_ble_eq_true rfl⟩ ⟨Nat.zero_le _, Nat.zero_le _⟩ rfl hl.1 rfl (Nat.le_of_ble_eq_true rfl) dX9_isWord_30) ?_
          refine r_icmp_ge (tgt := 63) hx hb dX9_isWord_33 (by decide) (by omega) (by omega) (fun c6 => ?_) (fun c6 => ?_)
          · have ej : j = sLn i := by omega
            refine r_iconst hx hb dX9_isWord_63 ?_
            exact a_zret hCK hQ hr hlk hG hS (by omega) (by omega) (by decide) dX9_isWord_64 (⟨if_pos ⟨by omega, by unfold isW; rw [← ej, eq0]; simp; omega⟩, rfl, rfl, rfl⟩)
          · have bx := hbx (fr + j) (by omega) (by omega)
            have bc := sCh_bd i j
            refine lv_aload_n hx hb dX9_isWord_36 rfl (lv_at hl 1 rfl) ?_
            refine a_get hCK hG 6000 e_rd v_rd k_rd (ci := 8) rfl in_X9 2 (by decide) q326 rfl rfl dX9_isWord_37 ?_
            refine W.eq (g2 := F0 m 40 ls [.ref (ad 1)]) rfl ?_
            refine lv_aload_n hx hb dX9_isWord_40 rfl (lv_at hl 1 rfl) ?_
            refine a_get hCK hG 6000 e_rd v_rd k_rd (ci := 8) rfl in_X9 7 (by decide) q331 rfl rfl dX9_isWord_41 ?_
            refine W.eq (g2 := F0 m 44 ls [.int (iI fr), .ref (ad 1)]) rfl ?_
            refine lv_iload_n hx hb dX9_isWord_44 rfl (lv_at hl 0 rfl) ?_
            refine r_iadd hx hb dX9_isWord_45 ?_
            refine a_bld (v := x (fr + j)) hCK hG 1 e_tx v_tx k_tx (by decide) (by omega) rfl dX9_isWord_46 ?_
            refine lv_aload_n hx hb dX9_isWord_47 rfl (lv_at hl 2 rfl) ?_
            refine lv_iload_n hx hb dX9_isWord_48 rfl (lv_at hl 0 rfl) ?_
            refine s_calli (j_runV (n := 1) (C := RJ8) (b := adK i) (rest := [.int (iI (x (fr + j)))]) (as := [.int (iI j)]) hx hb hml hown hts (met_charAt l adK adV st A i j hi (by omega)) EV.blind (hE.at hS) (e_rec hE hS hi) q474 q475 q476 q87 q477 (by decide +kernel) ⟨rfl, rfl⟩ hR ⟨Nat.le_of_ble_eq_true rfl, Nat.le_of_ble_eq_true rfl⟩ ⟨Nat.zero_le _, Nat.zero_le _⟩ rfl hl.1 rfl (Nat.le_of_ble_eq_true rfl) dX9_isWord_49) ?_
            refine r_icmp_eq (tgt := 57) hx hb dX9_isWord_52 (by decide) (by omega) (by omega) (fun c7 => ?_) (fun c7 => ?_)
            · refine lv_iinc (v := iI (j + 1)) (lv' := [(2, .int (iI (j + 1))), (0, .ref (ad 6000)), (1, .ref (adK i))]) hx hb dX9_isWord_57 hl (k := 0) rfl (iI_add _ _) (by decide) rfl (fun ls hl => ?_)
              refine lv_goto (tgt := 28) hx hb dX9_isWord_60 (by decide) ?_
              exact ih4 (j + 1) V ad C (by omega) v_rd e_rd k_rd v_tx e_tx k_tx (by omega) (by rw [eqN_s (by omega), eq0]; simp; omega) rfl rfl rfl _ _ _ hG hS (lv_sub hl [0, 1, 2] rfl)
            · refine r_iconst hx hb dX9_isWord_55 ?_
              exact a_zret hCK hQ hr hlk hG hS (by omega) (by omega) (by decide) dX9_isWord_56 (⟨if_neg (fun q => by have h := q.2; unfold isW at h; simp only [Bool.and_eq_true] at h; have h2 := eqN_mono (j + 1).toNat _ (by omega) h.2; rw [eqN_s (by omega)] at h2; simp only [Bool.and_eq_true, decide_eq_true_eq] at h2; omega), rfl, rfl, rfl⟩)
      exact loop28_3 ((sLn i - 0 : Int).toNat + 1) 0 V ad C (by omega) v_rd e_rd k_rd v_tx e_tx k_tx (by omega) rfl rfl rfl rfl _ _ _ hG hS (lv_sub hl [0, 1, 2] rfl)
    · refine r_iconst hx hb dX9_isWord_24 ?_
      exact a_zret hCK hQ hr hlk hG hS (by omega) (by omega) (by decide) dX9_isWord_25 (⟨if_neg (fun q => by have h := q.2; unfold isW at h; simp only [Bool.and_eq_true, decide_eq_true_eq] at h; omega), rfl, rfl, rfl⟩)
theorem dX9_wordOf_0 : decode cX9_wordOf 0 = .ok (.iconst 0, 1) := by decide +kernel
theorem dX9_wordOf_1 : decode cX9_wordOf 1 = .ok (.istore_n 2, 1) := by decide +kernel
theorem dX9_wordOf_2 : decode cX9_wordOf 2 = .ok (.iload_n 2, 1) := by decide +kernel
theorem dX9_wordOf_3 : decode cX9_wordOf 3 = .ok (.aload_n 1, 1) := by decide +kernel
theorem dX9_wordOf_4 : decode cX9_wordOf 4 = .ok (.arraylength, 1) := by decide +kernel
theorem dX9_wordOf_5 : decode cX9_wordOf 5 = .ok (.if_icmp .ge 21, 3) := by decide +kernel
theorem dX9_wordOf_8 : decode cX9_wordOf 8 = .ok (.aload_n 0, 1) := by decide +kernel
theorem dX9_wordOf_9 : decode cX9_wordOf 9 = .ok (.aload_n 1, 1) := by decide +kernel
theorem dX9_wordOf_10 : decode cX9_wordOf 10 = .ok (.iload_n 2, 1) := by decide +kernel
theorem dX9_wordOf_11 : decode cX9_wordOf 11 = .ok (.aaload, 1) := by decide +kernel
theorem dX9_wordOf_12 : decode cX9_wordOf 12 = .ok (.invokevirtual 101, 3) := by decide +kernel
theorem dX9_wordOf_15 : decode cX9_wordOf 15 = .ok (.ifCond .eq 5, 3) := by decide +kernel
theorem dX9_wordOf_18 : decode cX9_wordOf 18 = .ok (.iload_n 2, 1) := by decide +kernel
theorem dX9_wordOf_19 : decode cX9_wordOf 19 = .ok (.ireturn, 1) := by decide +kernel
theorem dX9_wordOf_20 : decode cX9_wordOf 20 = .ok (.iinc 2 1, 3) := by decide +kernel
theorem dX9_wordOf_23 : decode cX9_wordOf 23 = .ok (.goto (-21), 3) := by decide +kernel
theorem dX9_wordOf_26 : decode cX9_wordOf 26 = .ok (.iconst (-1), 1) := by decide +kernel
theorem dX9_wordOf_27 : decode cX9_wordOf 27 = .ok (.ireturn, 1) := by decide +kernel
set_option maxHeartbeats 4000000 in
theorem met_wof (l : Launch) (adK adV st : Nat → Nat) (D : va_G) (E : Nat → ClassId) (A : Nat → Prop) (V : Nat → Prop) (ad : Nat → Nat) (C : Nat → va_E) (x : Int → Int) (n k fr to vl fa : Int) (hn : 0 ≤ n ∧ n ≤ 300) (hbx : Bd x 300 (-128) 127) (v_rd : V 6000) (k_rd : C 6000 = .inr (8, [.ref (ad 6001), .ref (ad 6002), .ref (ad 1), .int (iI n), .ref (ad 6003), .ref (ad 6005), .int (iI k), .int (iI fr), .int (iI to), .int (iI vl), .int (iI fa)])) (v_tx : V 1) (k_tx : C 1 = .inl (E 1, 300, ai x)) (hft : 0 ≤ fr ∧ fr ≤ to ∧ to ≤ n) (r_k : R32 k) (ra w0 m0 : Nat) (v_wa : V ra) (k_wa : C ra = .inl (E 8, m0, ar (fun j => some (adK (w0 + j))))) (hm0 : m0 ≤ 7) (hw0 : w0 + m0 ≤ 14) (hra : ra ≠ 6000 ∧ ra ≠ 1) : AM l yX9_wordOf cX9_wordOf 3 (some .int) (amr 5 0 0) adK adV st D E A [.ref (ad 6000), .ref (ad ra)] V ad C (AQi D E A (fun z ad1 V1 C1 => ((z = -1 ∧ ∀ j, j < m0 → ¬ (k = 1 ∧ isW x fr to (w0 + j) = true)) ∨ ((0 ≤ z ∧ z < (m0 : Int)) ∧ k = 1 ∧ isW x fr to (w0 + z.toNat) = true)) ∧ ad = ad1 ∧ V = V1 ∧ C = C1)) 0 0 := by
  refine a_start (by decide) rfl (Nat.le_of_ble_eq_true rfl) ?_
  intro p e R s m args below meth c ls Q hR hQ hCK hml hr hlk hnme hG hS hE hA hl
  have hx := hCK.1
  have hb := hCK.2.1
  have hown := hCK.2.2.1
  have hts := hCK.2.2.2.1
  have hK := hCK.2.2.2.2
  have hl : lv_has ls 3 [(0, .ref (ad 6000)), (1, .ref (ad ra))] := hl
  have e_rd : ad 6000 = (ad 6000) := rfl
  have e_tx : ad 1 = (ad 1) := rfl
  have e_wa : ad ra = (ad ra) := rfl
  refine r_iconst hx hb dX9_wordOf_0 ?_
  refine lv_istore_n (lv' := [(2, .int (iI 0)), (0, .ref (ad 6000)), (1, .ref (ad ra))]) hx hb dX9_wordOf_1 rfl hl (by decide) rfl (fun ls hl => ?_)
  have loop2_1 : ∀ (nd : Nat) (j : Int) (Vg : Nat → Prop) (adg : Nat → Nat) (Cg : Nat → va_E), (m0 : Int) - j < (nd : Int) → (Vg 6000) → (adg 6000 = (ad 6000)) → (Cg 6000 = .inr (8, [.ref (ad 6001), .ref (ad 6002), .ref (ad 1), .int (iI n), .ref (ad 6003), .ref (ad 6005), .int (iI k), .int (iI fr), .int (iI to), .int (iI vl), .int (iI fa)])) → (Vg 1) → (adg 1 = (ad 1)) → (Cg 1 = .inl (E 1, 300, ai x)) → (Vg ra) → (adg ra = (ad ra)) → (Cg ra = .inl (E 8, m0, ar (fun j => some (adK (w0 + j))))) → (0 ≤ j ∧ j ≤ (m0 : Int)) → (∀ i : Nat, (i : Int) < j → ¬ (k = 1 ∧ isW x fr to (w0 + i) = true)) → (V = Vg) → (ad = adg) → (C = Cg) → ∀ (H : Heap) (locs : List Loc) (ls : Array Slot), GW D A Vg adg Cg H → va_S A s.heap H locs → lv_has ls 3 [(2, .int (iI j)), (0, .ref (ad 6000)), (1, .ref (ad ra))] → W p l e R s m args below meth c H locs 0 0 Q (F0 m 2 ls []) := by
    intro nd
    induction nd with
    | zero => intro j Vg adg Cg hn3 v_rd e_rd k_rd v_tx e_tx k_tx v_wa e_wa k_wa hj hno eV ea ec; exfalso; omega
    | succ nd ih2 =>
      intro j Vg adg Cg hn3 v_rd e_rd k_rd v_tx e_tx k_tx v_wa e_wa k_wa hj hno eV ea ec H locs ls hG hS hl
      subst eV
      subst ea
      subst ec
      refine lv_iload_n hx hb dX9_wordOf_2 rfl (lv_at hl 0 rfl) ?_
      refine lv_aload_n hx hb dX9_wordOf_3 rfl (lv_at hl 2 rfl) ?_
      refine a_len hCK hG ra e_wa v_wa k_wa (t := 8) rfl dX9_wordOf_4 ?_
      refine W.eq (g2 := F0 m 5 ls [.int (iI ((m0 : Nat) : Int)), .int (iI j)]) rfl ?_
      refine r_icmp_ge (tgt := 26) hx hb dX9_wordOf_5 (by decide) (by omega) (by omega) (fun c4 => ?_) (fun c4 => ?_)
      · refine r_iconst hx hb dX9_wordOf_26 ?_
        exact a_iret hCK hQ hr hlk hG hS (by omega) (by omega) dX9_wordOf_27 (⟨Or.inl ⟨rfl, fun i hi => hno i (by omega)⟩, rfl, rfl, rfl⟩)
      · refine lv_aload_n hx hb dX9_wordOf_8 rfl (lv_at hl 1 rfl) ?_
        refine lv_aload_n hx hb dX9_wordOf_9 rfl (lv_at hl 2 rfl) ?_
        refine lv_iload_n hx hb dX9_wordOf_10 rfl (lv_at hl 0 rfl) ?_
        refine a_ald (v := .ref (adK (w0 + j.toNat))) hCK hG ra e_wa v_wa k_wa (t := 8) rfl (by omega) (by omega) rfl dX9_wordOf_11 ?_
        refine a_calli (a_runV (n := 1) (C0 := RX9) (b := (ad 6000)) (rest := []) (as := [.ref (adK (w0 + j.toNat))]) hCK hE hA hml (met_isw l adK adV st D E A V ad C (w0 + j.toNat) (by omega) x n k fr to vl fa hn hbx v_rd k_rd v_tx k_tx hft r_k) (by have h := g_rec (r := 6000) (ci := 8) hK hG v_rd rfl k_rd; rw [e_rd] at h; exact h) q469 q471 qs5 q86 q472 (by decide +kernel) ⟨rfl, rfl⟩ hR ⟨Nat.le_of_ble_eq_true rfl, Nat.le_of_ble_eq_true rfl⟩ ⟨(by rw [hR]; show _ ≤ _; (try unfold amr); (try simp only []); omega), (by rw [hR]; show _ ≤ _; (try unfold amr); (try simp only []); omega)⟩ hG hS rfl hl.1 rfl (Nat.le_of_ble_eq_true rfl) dX9_wordOf_12) hS (fun z5 ad6 V7 C8 H locs hp9 hG hS => ?_)
        obtain ⟨rfl, rfl, rfl, rfl⟩ := hp9
        refine W.eq (g2 := F0 m 15 ls [.int (iI (if k = 1 ∧ isW x fr to (w0 + j.toNat) = true then 1 else 0))]) rfl ?_
        refine r_ifeqB (tgt := 20) hx hb dX9_wordOf_15 (by decide) (fun c9 => ?_) (fun c9 => ?_)
        · refine lv_iinc (v := iI (j + 1)) (lv' := [(2, .int (iI (j + 1))), (0, .ref (ad 6000)), (1, .ref (ad ra))]) hx hb dX9_wordOf_20 hl (k := 0) rfl (iI_add _ _) (by decide) rfl (fun ls hl => ?_)
          refine lv_goto (tgt := 2) hx hb dX9_wordOf_23 (by decide) ?_
          exact ih2 (j + 1) V ad C (by omega) v_rd e_rd k_rd v_tx e_tx k_tx v_wa e_wa k_wa (by omega) (fun i hi => by rcases (show (i : Int) < j ∨ i = j.toNat by omega) with q | q; exact hno i q; subst q; exact c9) rfl rfl rfl _ _ _ hG hS (lv_sub hl [0, 1, 2] rfl)
        · refine lv_iload_n hx hb dX9_wordOf_18 rfl (lv_at hl 0 rfl) ?_
          exact a_iret hCK hQ hr hlk hG hS (by omega) (by omega) dX9_wordOf_19 (⟨Or.inr ⟨by omega, c9⟩, rfl, rfl, rfl⟩)
  exact loop2_1 (((m0 : Int) - 0 : Int).toNat + 1) 0 V ad C (by omega) v_rd e_rd k_rd v_tx e_tx k_tx v_wa e_wa k_wa (by omega) (fun i hi => absurd hi (by omega)) rfl rfl rfl _ _ _ hG hS (lv_sub hl [0, 1, 2] rfl)
theorem dX9_passes_0 : decode cX9_passes 0 = .ok (.iload_n 1, 1) := by decide +kernel
theorem dX9_passes_1 : decode cX9_passes 1 = .ok (.ifCond .ne 21, 3) := by decide +kernel
theorem dX9_passes_4 : decode cX9_passes 4 = .ok (.aload_n 0, 1) := by decide +kernel
theorem dX9_passes_5 : decode cX9_passes 5 = .ok (.getfield 53, 3) := by decide +kernel
theorem dX9_passes_8 : decode cX9_passes 8 = .ok (.iconst (-1), 1) := by decide +kernel
theorem dX9_passes_9 : decode cX9_passes 9 = .ok (.if_icmp .ne 11, 3) := by decide +kernel
theorem dX9_passes_12 : decode cX9_passes 12 = .ok (.aload_n 0, 1) := by decide +kernel
theorem dX9_passes_13 : decode cX9_passes 13 = .ok (.aload_n 0, 1) := by decide +kernel
theorem dX9_passes_14 : decode cX9_passes 14 = .ok (.getfield 67, 3) := by decide +kernel
theorem dX9_passes_17 : decode cX9_passes 17 = .ok (.putfield 53, 3) := by decide +kernel
theorem dX9_passes_20 : decode cX9_passes 20 = .ok (.iconst 0, 1) := by decide +kernel
theorem dX9_passes_21 : decode cX9_passes 21 = .ok (.ireturn, 1) := by decide +kernel
theorem dX9_passes_22 : decode cX9_passes 22 = .ok (.aload_n 0, 1) := by decide +kernel
theorem dX9_passes_23 : decode cX9_passes 23 = .ok (.invokevirtual 105, 3) := by decide +kernel
theorem dX9_passes_26 : decode cX9_passes 26 = .ok (.iconst 1, 1) := by decide +kernel
theorem dX9_passes_27 : decode cX9_passes 27 = .ok (.ireturn, 1) := by decide +kernel
set_option maxHeartbeats 4000000 in
theorem met_pass (l : Launch) (adK adV st : Nat → Nat) (D : va_G) (E : Nat → ClassId) (A : Nat → Prop) (V : Nat → Prop) (ad : Nat → Nat) (C : Nat → va_E) (z : Int) (hz : z = 0 ∨ z = 1) (x : Int → Int) (n k fr to vl fa : Int) (hn : 0 ≤ n ∧ n ≤ 300) (hbx : Bd x 300 (-128) 127) (v_rd : V 6000) (k_rd : C 6000 = .inr (8, [.ref (ad 6001), .ref (ad 6002), .ref (ad 1), .int (iI n), .ref (ad 6003), .ref (ad 6005), .int (iI k), .int (iI fr), .int (iI to), .int (iI vl), .int (iI fa)])) (v_tx : V 1) (k_tx : C 1 = .inl (E 1, 300, ai x)) (hto : 0 ≤ to ∧ to ≤ n) (r_fa : R32 fa) : AM l yX9_passes cX9_passes 2 (some .boolean) (amr 5 0 0) adK adV st D E A [.ref (ad 6000), .int (iI z)] V ad C (AQi D E A (fun r ad1 V1 C1 => z = r ∧ ad = ad1 ∧ V = V1 ∧ ((z = 0 ∧ C1 6000 = .inr (8, [.ref (ad 6001), .ref (ad 6002), .ref (ad 1), .int (iI n), .ref (ad 6003), .ref (ad 6005), .int (iI k), .int (iI fr), .int (iI to), .int (iI vl), .int (iI (if fa = -1 then fr else fa))])) ∨ (z = 1 ∧ ∃ vl1, C1 6000 = .inr (8, [.ref (ad 6001), .ref (ad 6002), .ref (ad 1), .int (iI n), .ref (ad 6003), .ref (ad 6005), .int (iI (kC x n to)), .int (iI (tF x n to)), .int (iI (tT x n to)), .int (iI vl1), .int (iI fa)]) ∧ numAt x n to vl1)) ∧ ∀ q, q ≠ 6000 → C1 q = C q)) 0 0 := by
  refine a_start (by decide) rfl (Nat.le_of_ble_eq_true rfl) ?_
  intro p e R s m args below meth c ls Q hR hQ hCK hml hr hlk hnme hG hS hE hA hl
  have hx := hCK.1
  have hb := hCK.2.1
  have hown := hCK.2.2.1
  have hts := hCK.2.2.2.1
  have hK := hCK.2.2.2.2
  have hl : lv_has ls 2 [(0, .ref (ad 6000)), (1, .int (iI z))] := hl
  have e_rd : ad 6000 = (ad 6000) := rfl
  have e_tx : ad 1 = (ad 1) := rfl
  have hOc : ∀ q, (q ≠ 6000) → C q = C q := fun _ _ => rfl
  refine lv_iload_n hx hb dX9_passes_0 rfl (lv_at hl 1 rfl) ?_
  refine r_if_ne (tgt := 22) hx hb dX9_passes_1 (by decide) (by omega) (fun c1 => ?_) (fun c1 => ?_)
  · refine lv_aload_n hx hb dX9_passes_22 rfl (lv_at hl 0 rfl) ?_
    refine a_callv (a_runV (n := 0) (C0 := RX9) (b := (ad 6000)) (rest := []) (as := []) hCK hE hA hml (met_rnext l adK adV st D E A V ad C x n k fr to vl fa hn hbx v_rd k_rd v_tx k_tx (by omega)) (by have h := g_rec (r := 6000) (ci := 8) hK hG v_rd rfl k_rd; rw [e_rd] at h; exact h) q363 q365 qs1 q86 q366 (by decide +kernel) ⟨rfl, rfl⟩ hR ⟨Nat.le_of_ble_eq_true rfl, Nat.le_of_ble_eq_true rfl⟩ ⟨(by rw [hR]; show _ ≤ _; (try unfold amr); (try simp only []); omega), (by rw [hR]; show _ ≤ _; (try unfold amr); (try simp only []); omega)⟩ hG hS rfl hl.1 rfl (Nat.le_of_ble_eq_true rfl) dX9_passes_23) hS (fun ad3 V4 C5 H locs hp6 hG hS => ?_)
    obtain ⟨rfl, rfl, ⟨vl1, k9, hN9⟩, o9⟩ := hp6
    have k_rd : C5 6000 = .inr (8, [.ref (ad 6001), .ref (ad 6002), .ref (ad 1), .int (iI n), .ref (ad 6003), .ref (ad 6005), .int (iI (kC x n to)), .int (iI (tF x n to)), .int (iI (tT x n to)), .int (iI vl1), .int (iI fa)]) := k9
    have k_tx : C5 1 = .inl (E 1, 300, ai x) := (o9 1 (by omega)).trans k_tx
    have hOc : ∀ q, (q ≠ 6000) → C5 q = C q := fun q hq => (o9 q (by omega)).trans (hOc q hq)
    refine r_iconst hx hb dX9_passes_26 ?_
    exact a_zret hCK hQ hr hlk hG hS (by omega) (by omega) (by decide) dX9_passes_27 (⟨by omega, rfl, rfl, Or.inr ⟨by omega, vl1, k_rd, hN9⟩, hOc⟩)
  · refine lv_aload_n hx hb dX9_passes_4 rfl (lv_at hl 0 rfl) ?_
    refine a_get hCK hG 6000 e_rd v_rd k_rd (ci := 8) rfl in_X9 10 (by decide) q334 rfl rfl dX9_passes_5 ?_
    refine W.eq (g2 := F0 m 8 ls [.int (iI fa)]) rfl ?_
    refine r_iconst hx hb dX9_passes_8 ?_
    refine r_icmp_ne (tgt := 20) hx hb dX9_passes_9 (by decide) r_fa (by decide) (fun c7 => ?_) (fun c7 => ?_)
    · refine r_iconst hx hb dX9_passes_20 ?_
      exact a_zret hCK hQ hr hlk hG hS (by omega) (by omega) (by decide) dX9_passes_21 (⟨by omega, rfl, rfl, Or.inl ⟨by omega, by rw [k_rd, if_neg (by omega)]⟩, hOc⟩)
    · refine lv_aload_n hx hb dX9_passes_12 rfl (lv_at hl 0 rfl) ?_
      refine lv_aload_n hx hb dX9_passes_13 rfl (lv_at hl 0 rfl) ?_
      refine a_get hCK hG 6000 e_rd v_rd k_rd (ci := 8) rfl in_X9 7 (by decide) q331 rfl rfl dX9_passes_14 ?_
      refine W.eq (g2 := F0 m 17 ls [.int (iI fr), .ref (ad 6000)]) rfl ?_
      refine a_put (tyf := tyX9) hCK hG hS 6000 e_rd v_rd k_rd (ci := 8) rfl in_X9 tyX9_ok nmX9 10 (by decide) q334 rfl rfl rfl rfl (Nat.le_of_ble_eq_true rfl) dX9_passes_17 (fun C8 H locs kk9 oo10 hG hS => ?_)
      have k_rd : C8 6000 = .inr (8, [.ref (ad 6001), .ref (ad 6002), .ref (ad 1), .int (iI n), .ref (ad 6003), .ref (ad 6005), .int (iI k), .int (iI fr), .int (iI to), .int (iI vl), .int (iI fr)]) := kk9
      have k_tx : C8 1 = .inl (E 1, 300, ai x) := (oo10 1 (by omega)).trans k_tx
      have hOc : ∀ q, (q ≠ 6000) → C8 q = C q := fun q hq => (oo10 q (by omega)).trans (hOc q hq)
      refine r_iconst hx hb dX9_passes_20 ?_
      exact a_zret hCK hQ hr hlk hG hS (by omega) (by omega) (by decide) dX9_passes_21 (⟨by omega, rfl, rfl, Or.inl ⟨by omega, by rw [k_rd, if_pos (by omega)]⟩, hOc⟩)
theorem dX9_puts_0 : decode cX9_puts 0 = .ok (.aload_n 0, 1) := by decide +kernel
theorem dX9_puts_1 : decode cX9_puts 1 = .ok (.getfield 43, 3) := by decide +kernel
theorem dX9_puts_4 : decode cX9_puts 4 = .ok (.aload_n 1, 1) := by decide +kernel
theorem dX9_puts_5 : decode cX9_puts 5 = .ok (.invokevirtual 108, 3) := by decide +kernel
theorem dX9_puts_8 : decode cX9_puts 8 = .ok (.ireturn, 1) := by decide +kernel
set_option maxHeartbeats 4000000 in
theorem met_puts (l : Launch) (adK adV st : Nat → Nat) (D : va_G) (E : Nat → ClassId) (A : Nat → Prop) (V : Nat → Prop) (ad : Nat → Nat) (C : Nat → va_E) (Vb : Nat → Prop) (adb : Nat → Nat) (Cb : Nat → va_E) (x : Int → Int) (n k fr to vl fa mo : Int) (cap b0 : Nat) (all : List (Int × Int)) (d w : Int) (xx : Nat) (h : RD E adK x n Vb adb Cb k fr to vl fa mo cap b0 all) (hVb : V = fun q => Vb q ∨ q = 7000 + all.length) (ho : ∀ q, q ≠ 7000 + all.length → ad q = adb q ∧ C q = Cb q) (hm : C (7000 + all.length) = mkE d w) (exx : ad (7000 + all.length) = xx) (hgr : all.length = b0 + cap → cap + cap / 2 ≤ 600) (mc ms : Nat) (hmm : all.length = b0 + cap → 1 ≤ mc ∧ cap + cap / 2 ≤ ms) : AM l yX9_puts cX9_puts 2 (some .boolean) (amr 8 mc ms) adK adV st D E A [.ref (adb 6000), .ref xx] V ad C (AQi D E A (fun z ad1 V1 C1 => 1 = z ∧ ∃ mo1 cap1, ((all.length < b0 + cap ∧ cap1 = cap) ∨ (all.length = b0 + cap ∧ cap1 = cap + cap / 2)) ∧ RD E adK x n V1 ad1 C1 k fr to vl fa mo1 cap1 b0 (all ++ [(d, w)]) ∧ OT all.length Vb adb Cb V1 ad1 C1)) mc ms := by
  refine a_start (by decide) rfl (Nat.le_of_ble_eq_true rfl) ?_
  intro p e R s m args below meth c ls Q hR hQ hCK hml hr hlk hnme hG hS hE hA hl
  have hx := hCK.1
  have hb := hCK.2.1
  have hown := hCK.2.2.1
  have hts := hCK.2.2.2.1
  have hK := hCK.2.2.2.2
  have hl : lv_has ls 2 [(0, .ref (adb 6000)), (1, .ref xx)] := hl
  have h0 := h
  obtain ⟨⟨h1, h2⟩, ⟨h3, h4⟩, ⟨h5, h6⟩, ⟨h7, h8⟩, ⟨h9, h10⟩, ⟨h11, h12⟩, h13, ⟨h14, h15⟩, h16, h17, h18, h19⟩ := h
  have hv : ∀ q, Vb q → V q := fun q hq => by rw [hVb]; exact Or.inl hq
  have v_rd : V 6000 := hv _ h3
  have e_rd : ad 6000 = (adb 6000) := (ho _ (by omega)).1
  have k_rd : C 6000 = .inr (8, [.ref (adb 6001), .ref (adb 6002), .ref (adb 1), .int (iI n), .ref (adb 6003), .ref (adb 6005), .int (iI k), .int (iI fr), .int (iI to), .int (iI vl), .int (iI fa)]) := (ho _ (by omega)).2.trans h4
  have v_li : V 6003 := hv _ h9
  have e_li : ad 6003 = (adb 6003) := (ho _ (by omega)).1
  have k_li : C 6003 = .inr (10, [.int (iI mo), .ref (adb 6004), .int (iI ((all.length : Int) - (b0 : Int)))]) := (ho _ (by omega)).2.trans h10
  have v_ar : V 6004 := hv _ h11
  have e_ar : ad 6004 = (adb 6004) := (ho _ (by omega)).1
  have k_ar : C 6004 = .inl (E 5, cap, ar (fun j => if b0 + j < all.length then some (adb (7000 + (b0 + j))) else none)) := (ho _ (by omega)).2.trans h12
  have v_el : V (7000 + all.length) := by rw [hVb]; exact Or.inr rfl
  have e_el : ad (7000 + all.length) = xx := exx
  have k_el : C (7000 + all.length) = mkE d w := hm
  have hrn : ¬ V 6008 := by rw [hVb]; rintro (q | q); exact h14 q; omega
  refine lv_aload_n hx hb dX9_puts_0 rfl (lv_at hl 0 rfl) ?_
  refine a_get hCK hG 6000 e_rd v_rd k_rd (ci := 8) rfl in_X9 4 (by decide) q328 rfl rfl dX9_puts_1 ?_
  refine W.eq (g2 := F0 m 4 ls [.ref (adb 6003)]) rfl ?_
  refine lv_aload_n hx hb dX9_puts_4 rfl (lv_at hl 1 rfl) ?_
  refine a_calli (a_runV (n := 1) (C0 := RJ2) (b := (adb 6003)) (rest := []) (as := [.ref xx]) hCK hE hA hml (met_add l adK adV st D E A V ad C 6003 6004 (adb 6003) (adb 6004) cap mo ((all.length : Int) - (b0 : Int)) (fun j => if b0 + j < all.length then some (adb (7000 + (b0 + j))) else none) (by decide) v_li e_li k_li v_ar e_ar k_ar (h0.el hVb ho) (by omega) 6008 hrn (7000 + all.length) xx v_el e_el (mkE_ob _ _ hm) (by omega) (by omega) (fun j hj => if_neg (by omega)) mc ms (fun q => hmm (by omega))) (by have h := g_rec (r := 6003) (ci := 10) hK hG v_li rfl k_li; rw [e_li] at h; exact h) q532 q533 q534 q71 q535 (by decide +kernel) ⟨rfl, rfl⟩ hR ⟨Nat.le_of_ble_eq_true rfl, Nat.le_of_ble_eq_true rfl⟩ ⟨(by rw [hR]; show _ ≤ _; (try unfold amr); (try simp only []); omega), (by rw [hR]; show _ ≤ _; (try unfold amr); (try simp only []); omega)⟩ hG hS rfl hl.1 rfl (Nat.le_of_ble_eq_true rfl) dX9_puts_5) hS (fun z1 ad2 V3 C4 H locs hp5 hG hS => ?_)
  obtain ⟨rfl, rfl, x9, cap1, hc9, e9, k9, l9, o1, o2⟩ := hp5
  refine W.eq (g2 := F0 m 8 ls [.int (iI 1)]) rfl ?_
  exact a_zret hCK hQ hr hlk hG hS (by omega) (by omega) (by decide) dX9_puts_8 (⟨rfl, _, cap1, by omega, h0.put hVb ((o2 _ (by omega) (by omega) (by omega)).trans hm) (fun q a1 a2 a3 => (o1 q a2 a3).trans (ho q a1).1) (fun q a1 a2 a3 a4 => (o2 q a2 a3 a4).trans (ho q a1).2) (by rw [l9, e9]) (by rw [k9, o1 _ (by omega) (by omega), exx]) (by omega) (by omega)⟩)
