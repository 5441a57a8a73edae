/-! THE COMPONENT: the best way -/
set_option maxRecDepth 100000
theorem dX0_best_0 : decode cX0_best 0 = .ok (.iload_n 1, 1) := by decide +kernel
theorem dX0_best_1 : decode cX0_best 1 = .ok (.i2l, 1) := by decide +kernel
theorem dX0_best_2 : decode cX0_best 2 = .ok (.lconst 0, 1) := by decide +kernel
theorem dX0_best_3 : decode cX0_best 3 = .ok (.iconst 3, 1) := by decide +kernel
theorem dX0_best_4 : decode cX0_best 4 = .ok (.aload_n 0, 1) := by decide +kernel
theorem dX0_best_5 : decode cX0_best 5 = .ok (.getfield 321, 3) := by decide +kernel
theorem dX0_best_8 : decode cX0_best 8 = .ok (.imul, 1) := by decide +kernel
theorem dX0_best_9 : decode cX0_best 9 = .ok (.i2l, 1) := by decide +kernel
theorem dX0_best_10 : decode cX0_best 10 = .ok (.invokestatic 101, 3) := by decide +kernel
theorem dX0_best_13 : decode cX0_best 13 = .ok (.ifCond .eq 21, 3) := by decide +kernel
theorem dX0_best_16 : decode cX0_best 16 = .ok (.iload_n 2, 1) := by decide +kernel
theorem dX0_best_17 : decode cX0_best 17 = .ok (.i2l, 1) := by decide +kernel
theorem dX0_best_18 : decode cX0_best 18 = .ok (.ldc2_w 147, 3) := by decide +kernel
theorem dX0_best_21 : decode cX0_best 21 = .ok (.aload_n 0, 1) := by decide +kernel
theorem dX0_best_22 : decode cX0_best 22 = .ok (.getfield 321, 3) := by decide +kernel
theorem dX0_best_25 : decode cX0_best 25 = .ok (.iconst 1, 1) := by decide +kernel
theorem dX0_best_26 : decode cX0_best 26 = .ok (.isub, 1) := by decide +kernel
theorem dX0_best_27 : decode cX0_best 27 = .ok (.i2l, 1) := by decide +kernel
theorem dX0_best_28 : decode cX0_best 28 = .ok (.invokestatic 101, 3) := by decide +kernel
theorem dX0_best_31 : decode cX0_best 31 = .ok (.ifCond .ne 5, 3) := by decide +kernel
theorem dX0_best_34 : decode cX0_best 34 = .ok (.iconst (-1), 1) := by decide +kernel
theorem dX0_best_35 : decode cX0_best 35 = .ok (.ireturn, 1) := by decide +kernel
theorem dX0_best_36 : decode cX0_best 36 = .ok (.aload_n 0, 1) := by decide +kernel
theorem dX0_best_37 : decode cX0_best 37 = .ok (.iload_n 1, 1) := by decide +kernel
theorem dX0_best_38 : decode cX0_best 38 = .ok (.invokevirtual 332, 3) := by decide +kernel
theorem dX0_best_41 : decode cX0_best 41 = .ok (.iload_n 2, 1) := by decide +kernel
theorem dX0_best_42 : decode cX0_best 42 = .ok (.iconst (-1), 1) := by decide +kernel
theorem dX0_best_43 : decode cX0_best 43 = .ok (.if_icmp .ne 12, 3) := by decide +kernel
theorem dX0_best_46 : decode cX0_best 46 = .ok (.aload_n 0, 1) := by decide +kernel
theorem dX0_best_47 : decode cX0_best 47 = .ok (.getfield 86, 3) := by decide +kernel
theorem dX0_best_50 : decode cX0_best 50 = .ok (.iconst 0, 1) := by decide +kernel
theorem dX0_best_51 : decode cX0_best 51 = .ok (.aaload, 1) := by decide +kernel
theorem dX0_best_52 : decode cX0_best 52 = .ok (.iload_n 1, 1) := by decide +kernel
theorem dX0_best_53 : decode cX0_best 53 = .ok (.iaload, 1) := by decide +kernel
theorem dX0_best_54 : decode cX0_best 54 = .ok (.ireturn, 1) := by decide +kernel
theorem dX0_best_55 : decode cX0_best 55 = .ok (.iload_n 1, 1) := by decide +kernel
theorem dX0_best_56 : decode cX0_best 56 = .ok (.istore_n 3, 1) := by decide +kernel
theorem dX0_best_57 : decode cX0_best 57 = .ok (.iconst (-1), 1) := by decide +kernel
theorem dX0_best_58 : decode cX0_best 58 = .ok (.istore 4, 2) := by decide +kernel
theorem dX0_best_60 : decode cX0_best 60 = .ok (.iconst 0, 1) := by decide +kernel
theorem dX0_best_61 : decode cX0_best 61 = .ok (.istore 5, 2) := by decide +kernel
theorem dX0_best_63 : decode cX0_best 63 = .ok (.iload 5, 2) := by decide +kernel
theorem dX0_best_65 : decode cX0_best 65 = .ok (.iload_n 2, 1) := by decide +kernel
theorem dX0_best_66 : decode cX0_best 66 = .ok (.if_icmp .gt 88, 3) := by decide +kernel
theorem dX0_best_69 : decode cX0_best 69 = .ok (.iconst 0, 1) := by decide +kernel
theorem dX0_best_70 : decode cX0_best 70 = .ok (.istore 4, 2) := by decide +kernel
theorem dX0_best_72 : decode cX0_best 72 = .ok (.aload_n 0, 1) := by decide +kernel
theorem dX0_best_73 : decode cX0_best 73 = .ok (.getfield 86, 3) := by decide +kernel
theorem dX0_best_76 : decode cX0_best 76 = .ok (.iload 5, 2) := by decide +kernel
theorem dX0_best_78 : decode cX0_best 78 = .ok (.iconst 1, 1) := by decide +kernel
theorem dX0_best_79 : decode cX0_best 79 = .ok (.iadd, 1) := by decide +kernel
theorem dX0_best_80 : decode cX0_best 80 = .ok (.aaload, 1) := by decide +kernel
theorem dX0_best_81 : decode cX0_best 81 = .ok (.iconst 0, 1) := by decide +kernel
theorem dX0_best_82 : decode cX0_best 82 = .ok (.iload_n 3, 1) := by decide +kernel
theorem dX0_best_83 : decode cX0_best 83 = .ok (.iload 4, 2) := by decide +kernel
theorem dX0_best_85 : decode cX0_best 85 = .ok (.isub, 1) := by decide +kernel
theorem dX0_best_86 : decode cX0_best 86 = .ok (.invokestatic 327, 3) := by decide +kernel
theorem dX0_best_89 : decode cX0_best 89 = .ok (.iaload, 1) := by decide +kernel
theorem dX0_best_90 : decode cX0_best 90 = .ok (.iconst (-1), 1) := by decide +kernel
theorem dX0_best_91 : decode cX0_best 91 = .ok (.if_icmp .eq 42, 3) := by decide +kernel
theorem dX0_best_94 : decode cX0_best 94 = .ok (.aload_n 0, 1) := by decide +kernel
theorem dX0_best_95 : decode cX0_best 95 = .ok (.getfield 86, 3) := by decide +kernel
theorem dX0_best_98 : decode cX0_best 98 = .ok (.iload 5, 2) := by decide +kernel
theorem dX0_best_100 : decode cX0_best 100 = .ok (.iconst 1, 1) := by decide +kernel
theorem dX0_best_101 : decode cX0_best 101 = .ok (.iadd, 1) := by decide +kernel
theorem dX0_best_102 : decode cX0_best 102 = .ok (.aaload, 1) := by decide +kernel
theorem dX0_best_103 : decode cX0_best 103 = .ok (.iconst 0, 1) := by decide +kernel
theorem dX0_best_104 : decode cX0_best 104 = .ok (.iload_n 3, 1) := by decide +kernel
theorem dX0_best_105 : decode cX0_best 105 = .ok (.iload 4, 2) := by decide +kernel
theorem dX0_best_107 : decode cX0_best 107 = .ok (.isub, 1) := by decide +kernel
theorem dX0_best_108 : decode cX0_best 108 = .ok (.invokestatic 327, 3) := by decide +kernel
theorem dX0_best_111 : decode cX0_best 111 = .ok (.iaload, 1) := by decide +kernel
theorem dX0_best_112 : decode cX0_best 112 = .ok (.aload_n 0, 1) := by decide +kernel
theorem dX0_best_113 : decode cX0_best 113 = .ok (.iload 5, 2) := by decide +kernel
theorem dX0_best_115 : decode cX0_best 115 = .ok (.iload 4, 2) := by decide +kernel
theorem dX0_best_117 : decode cX0_best 117 = .ok (.invokevirtual 329, 3) := by decide +kernel
theorem dX0_best_120 : decode cX0_best 120 = .ok (.iadd, 1) := by decide +kernel
theorem dX0_best_121 : decode cX0_best 121 = .ok (.aload_n 0, 1) := by decide +kernel
theorem dX0_best_122 : decode cX0_best 122 = .ok (.getfield 86, 3) := by decide +kernel
theorem dX0_best_125 : decode cX0_best 125 = .ok (.iload 5, 2) := by decide +kernel
theorem dX0_best_127 : decode cX0_best 127 = .ok (.aaload, 1) := by decide +kernel
theorem dX0_best_128 : decode cX0_best 128 = .ok (.iload_n 3, 1) := by decide +kernel
theorem dX0_best_129 : decode cX0_best 129 = .ok (.iaload, 1) := by decide +kernel
theorem dX0_best_130 : decode cX0_best 130 = .ok (.if_icmp .eq 9, 3) := by decide +kernel
theorem dX0_best_133 : decode cX0_best 133 = .ok (.iinc 4 1, 3) := by decide +kernel
theorem dX0_best_136 : decode cX0_best 136 = .ok (.goto (-64), 3) := by decide +kernel
theorem dX0_best_139 : decode cX0_best 139 = .ok (.iconst 0, 1) := by decide +kernel
theorem dX0_best_140 : decode cX0_best 140 = .ok (.iload_n 3, 1) := by decide +kernel
theorem dX0_best_141 : decode cX0_best 141 = .ok (.iload 4, 2) := by decide +kernel
theorem dX0_best_143 : decode cX0_best 143 = .ok (.isub, 1) := by decide +kernel
theorem dX0_best_144 : decode cX0_best 144 = .ok (.invokestatic 327, 3) := by decide +kernel
theorem dX0_best_147 : decode cX0_best 147 = .ok (.istore_n 3, 1) := by decide +kernel
theorem dX0_best_148 : decode cX0_best 148 = .ok (.iinc 5 1, 3) := by decide +kernel
theorem dX0_best_151 : decode cX0_best 151 = .ok (.goto (-88), 3) := by decide +kernel
theorem dX0_best_154 : decode cX0_best 154 = .ok (.iload 4, 2) := by decide +kernel
theorem dX0_best_156 : decode cX0_best 156 = .ok (.ireturn, 1) := by decide +kernel
set_option maxHeartbeats 4000000 in
theorem cbest (l : Launch) (adK adV st : Nat → Nat) (D : va_G) (E : Nat → ClassId) (A : Nat → Prop) (ad nv : Nat → Nat) (I : Nat → Int) (F : Nat → Int → Int) (S : Nat → Nat → Int) (Y : Nat → Int → Int) (L : Nat → Nat) (mi k : Int) (r_m : R32 mi) (r_k : R32 k) (gw0 : gWay I F) : CM l yX0_best cX0_best 6 (some .int) (mrm 3) adK adV st D E A ad nv [.ref (ad 0), .int (iI mi), .int (iI k)] I F S Y L (CQi D E A ad nv L (fun z I1 F1 S1 Y1 => bestS I F mi k = z ∧ I = I1 ∧ F = F1 ∧ S = S1 ∧ (∀ r, r < 2000 ∨ 2013 ≤ r → Y1 r = Y r))) := by
  refine c_start (by decide) rfl (Nat.le_of_ble_eq_true rfl) ?_
  intro p e R s m args below meth c ls Q hR hQ hCK hml hr hlk hG hS hE hl
  have hx := hCK.1
  have hb := hCK.2.1
  have hown := hCK.2.2.1
  have hts := hCK.2.2.2.1
  have hK := hCK.2.2.2.2
  have hl : lv_has ls 6 [(0, .ref (ad 0)), (1, .int (iI mi)), (2, .int (iI k))] := hl
  obtain ⟨i41, i44, a42, a43⟩ := id gw0
  have hLb := Lw_bd gw0
  refine lv_iload_n hx hb dX0_best_0 rfl (lv_at hl 1 rfl) ?_
  refine r_i2l hx hb dX0_best_1 (by omega) ?_
  refine r_lconst hx hb 0 dX0_best_2 (by decide) ?_
  refine r_iconst hx hb dX0_best_3 ?_
  refine lv_aload_n hx hb dX0_best_4 rfl (lv_at hl 0 rfl) ?_
  refine cg_X0_321 (v := I 41) hCK hG rfl dX0_best_5 ?_
  refine r_imul hx hb dX0_best_8 ?_
  refine r_i2l hx hb dX0_best_9 (by omega) ?_
  refine s_calli (j_runS (n := 3) (rest := []) (as := [.long (iL mi), .long (iL 0), .long (iL (3 * (I 41)))]) hx hb hml hown hts ((cin l mi 0 (3 * (I 41)) (by omega) (by decide) (by omega)).jm) (fun _ _ _ _ _ => trivial) (fun _ _ _ => trivial) q296 q297 q68 q298 (by decide +kernel) ⟨rfl, rfl⟩ hR (by decide) ⟨Nat.zero_le _, Nat.zero_le _⟩ rfl hl.1 rfl (Nat.le_of_ble_eq_true rfl) dX0_best_10) ?_
  refine r_ifeqB (tgt := 34) hx hb dX0_best_13 (by decide) (fun c1 => ?_) (fun c1 => ?_)
  · refine r_iconst hx hb dX0_best_34 ?_
    exact c_iret hCK hQ hr hlk hG hS dX0_best_35 (⟨if_neg (by omega), rfl, rfl, rfl, fun r hr => rfl⟩)
  · refine lv_iload_n hx hb dX0_best_16 rfl (lv_at hl 2 rfl) ?_
    refine r_i2l hx hb dX0_best_17 (by omega) ?_
    refine r_ldc2 hx hb (-1) hown (hts _ q666) (by decide) dX0_best_18 ?_
    refine lv_aload_n hx hb dX0_best_21 rfl (lv_at hl 0 rfl) ?_
    refine cg_X0_321 (v := I 41) hCK hG rfl dX0_best_22 ?_
    refine r_iconst hx hb dX0_best_25 ?_
    refine r_isub hx hb dX0_best_26 ?_
    refine r_i2l hx hb dX0_best_27 (by omega) ?_
    refine s_calli (j_runS (n := 3) (rest := []) (as := [.long (iL k), .long (iL (-1)), .long (iL ((I 41) - 1))]) hx hb hml hown hts ((cin l k (-1) ((I 41) - 1) (by omega) (by decide) (by omega)).jm) (fun _ _ _ _ _ => trivial) (fun _ _ _ => trivial) q296 q297 q68 q298 (by decide +kernel) ⟨rfl, rfl⟩ hR (by decide) ⟨Nat.zero_le _, Nat.zero_le _⟩ rfl hl.1 rfl (Nat.le_of_ble_eq_true rfl) dX0_best_28) ?_
    refine r_ifneB (tgt := 36) hx hb dX0_best_31 (by decide) (fun c2 => ?_) (fun c2 => ?_)
    · have hin : (0 ≤ mi ∧ mi ≤ 3 * I 41) ∧ (-1 ≤ k ∧ k ≤ I 41 - 1) := by omega
      refine lv_aload_n hx hb dX0_best_36 rfl (lv_at hl 0 rfl) ?_
      refine lv_iload_n hx hb dX0_best_37 rfl (lv_at hl 1 rfl) ?_
      refine c_callv (c_run (n := 1) (C0 := RX0) (b := ad 0) (rest := []) (as := [.int (iI mi)]) hCK hE hml (cways l adK adV st D E A ad nv I F S Y L mi (by omega) gw0) (g_rec (r := 0) (ci := 0) hK hG (Or.inl (by decide)) rfl cC_0) q965 q967 qs30 q68 q968 (by decide +kernel) ⟨rfl, rfl⟩ hR (by decide) ⟨Nat.zero_le _, Nat.zero_le _⟩ hG hS rfl hl.1 rfl (Nat.le_of_ble_eq_true rfl) dX0_best_38) hS (fun I4 F5 S6 Y7 H locs hp8 hG hS => ?_)
      obtain ⟨rfl, rfl, rfl, hkY, hg⟩ := hp8
      have hG : CW D E A ad nv I F S Y7 L H := hG
      refine lv_iload_n hx hb dX0_best_41 rfl (lv_at hl 2 rfl) ?_
      refine r_iconst hx hb dX0_best_42 ?_
      refine r_icmp_ne (tgt := 55) hx hb dX0_best_43 (by decide) (by omega) (by decide) (fun ck => ?_) (fun ck => ?_)
      · refine lv_iload_n hx hb dX0_best_55 rfl (lv_at hl 1 rfl) ?_
        refine lv_istore_n (lv' := [(3, .int (iI mi)), (0, .ref (ad 0)), (1, .int (iI mi)), (2, .int (iI k))]) hx hb dX0_best_56 rfl hl (by decide) rfl (fun ls hl => ?_)
        refine r_iconst hx hb dX0_best_57 ?_
        refine lv_istore (lv' := [(4, .int (iI (-1))), (3, .int (iI mi)), (0, .ref (ad 0)), (1, .int (iI mi)), (2, .int (iI k))]) hx hb dX0_best_58 hl (by decide) rfl (fun ls hl => ?_)
        refine r_iconst hx hb dX0_best_60 ?_
        refine lv_istore (lv' := [(5, .int (iI 0)), (4, .int (iI (-1))), (3, .int (iI mi)), (0, .ref (ad 0)), (1, .int (iI mi)), (2, .int (iI k))]) hx hb dX0_best_61 hl (by decide) rfl (fun ls hl => ?_)
        have loop63_9 : ∀ (n : Nat) (mm vv hh : Int), k + 1 - hh < (n : Int) → 0 ≤ hh → hh ≤ k + 1 → 0 ≤ mm → mm ≤ mi → mm = wayM (pickS (Lw I F) (qwS I F)) mi hh.toNat → (1 ≤ hh → vv = (pickS (Lw I F) (qwS I F)) (hh - 1) (wayM (pickS (Lw I F) (qwS I F)) mi (hh - 1).toNat)) → (hh ≤ k → Lw I F hh mm ≠ -1) → ∀ (H : Heap) (locs : List Loc) (ls : Array Slot), CW D E A ad nv I F S Y7 L H → va_S A s.heap H locs → lv_has ls 6 [(5, .int (iI hh)), (4, .int (iI vv)), (3, .int (iI mm)), (0, .ref (ad 0)), (1, .int (iI mi)), (2, .int (iI k))] → W p l e R s m args below meth c H locs 0 0 Q (F0 m 63 ls []) := by
          intro n
          induction n with
          | zero => intro mm vv hh hn11 hh0 hh1 hm0 hm1 em hvv hne; exfalso; omega
          | succ n ih10 =>
            intro mm vv hh hn11 hh0 hh1 hm0 hm1 em hvv hne H locs ls hG hS hl
            refine lv_iload hx hb dX0_best_63 (lv_at hl 0 rfl) ?_
            refine lv_iload_n hx hb dX0_best_65 rfl (lv_at hl 5 rfl) ?_
            refine r_icmp_gt (tgt := 154) hx hb dX0_best_66 (by decide) (by omega) (by omega) (fun c12 => ?_) (fun c12 => ?_)
            · refine lv_iload hx hb dX0_best_154 (lv_at hl 1 rfl) ?_
              exact c_iret hCK hQ hr hlk hG hS dX0_best_156 (⟨by unfold bestS; rw [if_pos hin, if_neg ck, hvv (by omega), show hh - 1 = k by omega], rfl, rfl, rfl, hkY⟩)
            · obtain ⟨pv, pv0, pv1, hpv⟩ := Lw_pick (I := I) (F := F) (h := hh) (m := mm) (by omega) (hne (by omega))
              refine r_iconst hx hb dX0_best_69 ?_
              refine lv_istore (lv' := [(4, .int (iI 0)), (5, .int (iI hh)), (3, .int (iI mm)), (0, .ref (ad 0)), (1, .int (iI mi)), (2, .int (iI k))]) hx hb dX0_best_70 hl (by decide) rfl (fun ls hl => ?_)
              have loop72_13 : ∀ (n : Nat) (u : Int), 3 - u < (n : Int) → 0 ≤ u → u ≤ 3 → (∀ y, 0 ≤ y → y < u → ¬ cdB (Lw I F) (qwS I F) hh mm y) → ∀ (H : Heap) (locs : List Loc) (ls : Array Slot), CW D E A ad nv I F S Y7 L H → va_S A s.heap H locs → lv_has ls 6 [(4, .int (iI u)), (5, .int (iI hh)), (3, .int (iI mm)), (0, .ref (ad 0)), (1, .int (iI mi)), (2, .int (iI k))] → W p l e R s m args below meth c H locs 0 0 Q (F0 m 72 ls []) := by
                intro n
                induction n with
                | zero => intro u hn15 hu0 hu1 hnu; exfalso; omega
                | succ n ih14 =>
                  intro u hn15 hu0 hu1 hnu H locs ls hG hS hl
                  have hu3 : u ≤ pv := Int.not_lt.mp (fun q => hnu pv pv0 q hpv)
                  have hix : 0 ≤ (if mm < u then 0 else mm - u) ∧ (if mm < u then 0 else mm - u) ≤ mm := by split <;> omega
                  have hgr := hg (hh + 1) (by omega) (by omega) (if mm < u then 0 else mm - u) hix.1 (by omega)
                  have b_re := hLb (hh + 1) (if mm < u then 0 else mm - u) (by omega)
                  have hgm := hg hh (by omega) (by omega) mm (by omega) (by omega)
                  have b_lm := hLb hh mm (by omega)
                  have b_qu := queasyS_bd (per := F 43) (hei := F 42) (own := I 44) (h := hh) u (a42 _ (by omega) (by omega))
                  refine lv_aload_n hx hb dX0_best_72 rfl (lv_at hl 3 rfl) ?_
                  refine cg_X0_86 hCK hG dX0_best_73 ?_
                  refine lv_iload hx hb dX0_best_76 (lv_at hl 1 rfl) ?_
                  refine r_iconst hx hb dX0_best_78 ?_
                  refine r_iadd hx hb dX0_best_79 ?_
                  refine cl_10 (z := hh + 1) hCK hG (by omega) dX0_best_80 ?_
                  refine r_iconst hx hb dX0_best_81 ?_
                  refine lv_iload_n hx hb dX0_best_82 rfl (lv_at hl 2 rfl) ?_
                  refine lv_iload hx hb dX0_best_83 (lv_at hl 0 rfl) ?_
                  refine r_isub hx hb dX0_best_85 ?_
                  refine s_calli (j_runS (n := 2) (rest := [.ref (ad (2000 + (hh + 1).toNat))]) (as := [.int (iI 0), .int (iI (mm - u))]) hx hb hml hown hts ((met_max l 0 (mm - u) (by decide) (by omega)).jm) (fun _ _ _ _ _ => trivial) (fun _ _ _ => trivial) q973 q406 q76 q407 (by decide +kernel) ⟨rfl, rfl⟩ hR (by decide) ⟨Nat.zero_le _, Nat.zero_le _⟩ rfl hl.1 rfl (Nat.le_of_ble_eq_true rfl) dX0_best_86) ?_
                  refine W.eq (g2 := F0 m 89 ls [.int (iI (if mm < u then 0 else mm - u)), .ref (ad (2000 + (hh + 1).toNat))]) (by rw [mxq]) ?_
                  refine cl_qf (v := Lw I F (hh + 1) (if mm < u then 0 else mm - u)) (k := hh + 1) hCK hG (by omega) (by omega) hgr dX0_best_89 ?_
                  refine r_iconst hx hb dX0_best_90 ?_
                  refine r_icmp_eq (tgt := 133) hx hb dX0_best_91 (by decide) (by omega) (by decide) (fun cr => ?_) (fun cr => ?_)
                  · have hnn : ¬ cdB (Lw I F) (qwS I F) hh mm u := fun q => q.1 cr
                    have hup : u ≠ pv := fun q => hnn (q ▸ hpv)
                    refine lv_iinc (v := iI (u + 1)) (lv' := [(4, .int (iI (u + 1))), (5, .int (iI hh)), (3, .int (iI mm)), (0, .ref (ad 0)), (1, .int (iI mi)), (2, .int (iI k))]) hx hb dX0_best_133 hl (k := 0) rfl (iI_add _ _) (by decide) rfl (fun ls hl => ?_)
                    refine lv_goto (tgt := 72) hx hb dX0_best_136 (by decide) ?_
                    exact ih14 (u + 1) (by omega) (by omega) (by omega) (fun y y0 y1 => by by_cases hy : y = u; subst hy; exact hnn; exact hnu y y0 (by omega)) _ _ _ hG hS (lv_sub hl [0, 1, 2, 3, 4, 5] rfl)
                  · refine lv_aload_n hx hb dX0_best_94 rfl (lv_at hl 3 rfl) ?_
                    refine cg_X0_86 hCK hG dX0_best_95 ?_
                    refine lv_iload hx hb dX0_best_98 (lv_at hl 1 rfl) ?_
                    refine r_iconst hx hb dX0_best_100 ?_
                    refine r_iadd hx hb dX0_best_101 ?_
                    refine cl_10 (z := hh + 1) hCK hG (by omega) dX0_best_102 ?_
                    refine r_iconst hx hb dX0_best_103 ?_
                    refine lv_iload_n hx hb dX0_best_104 rfl (lv_at hl 2 rfl) ?_
                    refine lv_iload hx hb dX0_best_105 (lv_at hl 0 rfl) ?_
                    refine r_isub hx hb dX0_best_107 ?_
                    refine s_calli (j_runS (n := 2) (rest := [.ref (ad (2000 + (hh + 1).toNat))]) (as := [.int (iI 0), .int (iI (mm - u))]) hx hb hml hown hts ((met_max l 0 (mm - u) (by decide) (by omega)).jm) (fun _ _ _ _ _ => trivial) (fun _ _ _ => trivial) q973 q406 q76 q407 (by decide +kernel) ⟨rfl, rfl⟩ hR (by decide) ⟨Nat.zero_le _, Nat.zero_le _⟩ rfl hl.1 rfl (Nat.le_of_ble_eq_true rfl) dX0_best_108) ?_
                    refine W.eq (g2 := F0 m 111 ls [.int (iI (if mm < u then 0 else mm - u)), .ref (ad (2000 + (hh + 1).toNat))]) (by rw [mxq]) ?_
                    refine cl_qf (v := Lw I F (hh + 1) (if mm < u then 0 else mm - u)) (k := hh + 1) hCK hG (by omega) (by omega) hgr dX0_best_111 ?_
                    refine lv_aload_n hx hb dX0_best_112 rfl (lv_at hl 3 rfl) ?_
                    refine lv_iload hx hb dX0_best_113 (lv_at hl 1 rfl) ?_
                    refine lv_iload hx hb dX0_best_115 (lv_at hl 0 rfl) ?_
                    refine s_calli (j_runV (n := 2) (C := RX0) (b := ad 0) (rest := [.int (iI (Lw I F (hh + 1) (if mm < u then 0 else mm - u)))]) (as := [.int (iI hh), .int (iI u)]) hx hb hml hown hts (cqueasy l adK adV st D E A ad nv I F S Y7 L hh u (by omega) (by omega) gw0) GB.blind (GB.at hK hG hE hS) (g_rec (r := 0) (ci := 0) hK hG (Or.inl (by decide)) rfl cC_0) q974 q976 qs32 q68 q977 (by decide +kernel) ⟨rfl, rfl⟩ hR (by decide) ⟨Nat.zero_le _, Nat.zero_le _⟩ rfl hl.1 rfl (Nat.le_of_ble_eq_true rfl) dX0_best_117) ?_
                    refine r_iadd hx hb dX0_best_120 ?_
                    refine lv_aload_n hx hb dX0_best_121 rfl (lv_at hl 3 rfl) ?_
                    refine cg_X0_86 hCK hG dX0_best_122 ?_
                    refine lv_iload hx hb dX0_best_125 (lv_at hl 1 rfl) ?_
                    refine cl_10 (z := hh) hCK hG (by omega) dX0_best_127 ?_
                    refine lv_iload_n hx hb dX0_best_128 rfl (lv_at hl 2 rfl) ?_
                    refine cl_qf (v := Lw I F hh mm) (k := hh) hCK hG (by omega) (by omega) hgm dX0_best_129 ?_
                    refine r_icmp_eq (tgt := 139) hx hb dX0_best_130 (by decide) (by omega) (by omega) (fun cq => ?_) (fun cq => ?_)
                    · have epk : (pickS (Lw I F) (qwS I F)) hh mm = u := pickS_eq (by omega) hnu (Or.inr ⟨cr, cq⟩)
                      refine r_iconst hx hb dX0_best_139 ?_
                      refine lv_iload_n hx hb dX0_best_140 rfl (lv_at hl 2 rfl) ?_
                      refine lv_iload hx hb dX0_best_141 (lv_at hl 0 rfl) ?_
                      refine r_isub hx hb dX0_best_143 ?_
                      refine s_calli (j_runS (n := 2) (rest := []) (as := [.int (iI 0), .int (iI (mm - u))]) hx hb hml hown hts ((met_max l 0 (mm - u) (by decide) (by omega)).jm) (fun _ _ _ _ _ => trivial) (fun _ _ _ => trivial) q973 q406 q76 q407 (by decide +kernel) ⟨rfl, rfl⟩ hR (by decide) ⟨Nat.zero_le _, Nat.zero_le _⟩ rfl hl.1 rfl (Nat.le_of_ble_eq_true rfl) dX0_best_144) ?_
                      refine W.eq (g2 := F0 m 147 ls [.int (iI (if mm < u then 0 else mm - u))]) (by rw [mxq]) ?_
                      refine lv_istore_n (lv' := [(3, .int (iI (if mm < u then 0 else mm - u))), (4, .int (iI u)), (5, .int (iI hh)), (0, .ref (ad 0)), (1, .int (iI mi)), (2, .int (iI k))]) hx hb dX0_best_147 rfl hl (by decide) rfl (fun ls hl => ?_)
                      refine lv_iinc (v := iI (hh + 1)) (lv' := [(5, .int (iI (hh + 1))), (3, .int (iI (if mm < u then 0 else mm - u))), (4, .int (iI u)), (0, .ref (ad 0)), (1, .int (iI mi)), (2, .int (iI k))]) hx hb dX0_best_148 hl (k := 2) rfl (iI_add _ _) (by decide) rfl (fun ls hl => ?_)
                      refine lv_goto (tgt := 63) hx hb dX0_best_151 (by decide) ?_
                      exact ih10 (if mm < u then 0 else mm - u) u (hh + 1) (by omega) (by omega) (by omega) (by omega) (by omega) (by rw [wayM_s _ _ hh0, ← em, epk]) (fun q => by rw [show hh + 1 - 1 = hh by omega, ← em, epk]) (fun q => cr) _ _ _ hG hS (lv_sub hl [0, 2, 1, 3, 4, 5] rfl)
                    · have hnn : ¬ cdB (Lw I F) (qwS I F) hh mm u := fun q => cq q.2
                      have hup : u ≠ pv := fun q => hnn (q ▸ hpv)
                      refine lv_iinc (v := iI (u + 1)) (lv' := [(4, .int (iI (u + 1))), (5, .int (iI hh)), (3, .int (iI mm)), (0, .ref (ad 0)), (1, .int (iI mi)), (2, .int (iI k))]) hx hb dX0_best_133 hl (k := 0) rfl (iI_add _ _) (by decide) rfl (fun ls hl => ?_)
                      refine lv_goto (tgt := 72) hx hb dX0_best_136 (by decide) ?_
                      exact ih14 (u + 1) (by omega) (by omega) (by omega) (fun y y0 y1 => by by_cases hy : y = u; subst hy; exact hnn; exact hnu y y0 (by omega)) _ _ _ hG hS (lv_sub hl [0, 1, 2, 3, 4, 5] rfl)
              exact loop72_13 ((3 - 0 : Int).toNat + 1) 0 (by omega) (by omega) (by omega) (fun y y0 y1 => by omega) _ _ _ hG hS (lv_sub hl [0, 1, 2, 3, 4, 5] rfl)
        exact loop63_9 ((k + 1 - 0 : Int).toNat + 1) mi (-1) 0 (by omega) (by omega) (by omega) (by omega) (by omega) rfl (fun q => by omega) (fun q => Lw_ne gw0 (by omega) (by omega)) _ _ _ hG hS (lv_sub hl [0, 1, 2, 3, 4, 5] rfl)
      · refine lv_aload_n hx hb dX0_best_46 rfl (lv_at hl 0 rfl) ?_
        refine cg_X0_86 hCK hG dX0_best_47 ?_
        refine r_iconst hx hb dX0_best_50 ?_
        refine cl_10 (z := 0) hCK hG (by decide) dX0_best_51 ?_
        refine lv_iload_n hx hb dX0_best_52 rfl (lv_at hl 1 rfl) ?_
        refine cl_qf (v := Lw I F 0 mi) (k := 0) hCK hG (by decide) (by omega) (hg 0 (by omega) (by omega) mi (by omega) (by omega)) dX0_best_53 ?_
        exact c_iret hCK hQ hr hlk hG hS dX0_best_54 (⟨by unfold bestS; rw [if_pos hin, if_pos ck], rfl, rfl, rfl, hkY⟩)
    · refine r_iconst hx hb dX0_best_34 ?_
      exact c_iret hCK hQ hr hlk hG hS dX0_best_35 (⟨if_neg (by omega), rfl, rfl, rfl, fun r hr => rfl⟩)
