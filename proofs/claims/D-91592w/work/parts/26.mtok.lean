/-! THE MODEL: tokens -/
set_option maxRecDepth 100000

theorem eqN_mono {x : Int → Int} {q : Int} {i : Nat} : ∀ a b : Nat, a ≤ b → eqN x q i b = true → eqN x q i a = true
  | a, 0, h, hb => by rw [show a = 0 by omega]; exact hb
  | a, b + 1, h, hb => by
    by_cases c : a = b + 1
    · rw [c]; exact hb
    · have : eqN x q i b = true := by unfold eqN at hb; simp only [Bool.and_eq_true] at hb; exact hb.1
      exact eqN_mono a b (by omega) this
theorem eqN_s {x : Int → Int} {q : Int} {i : Nat} {j : Int} (h : 0 ≤ j) : eqN x q i (j + 1).toNat = (eqN x q i j.toNat && decide (x (q + j) = sCh i j)) := by
  have e : (j + 1).toNat = j.toNat + 1 := by omega
  have e2 : ((j.toNat : Nat) : Int) = j := by omega
  rw [e]
  show (eqN x q i j.toNat && decide (x (q + ((j.toNat : Nat) : Int)) = sCh i ((j.toNat : Nat) : Int))) = _
  rw [e2]
theorem numM_s (x : Int → Int) (q : Int) {k : Int} (h : 0 ≤ k) : numM x q (k + 1).toNat = if 1000000 < numM x q k.toNat then numM x q k.toNat else 10 * numM x q k.toNat + x (q + k) - 48 := by
  have e : (k + 1).toNat = k.toNat + 1 := by omega
  have e2 : ((k.toNat : Nat) : Int) = k := by omega
  rw [e]
  show (if 1000000 < numM x q k.toNat then numM x q k.toNat else 10 * numM x q k.toNat + x (q + ((k.toNat : Nat) : Int)) - 48) = _
  rw [e2]
theorem w_char {k : Nat} (hk : k < 12) {j : Int} (h : 0 ≤ j ∧ j ≤ sLn (wS k)) : (sCh 0 (wAt k + j) = 32 ↔ j = sLn (wS k)) ∧ (j < sLn (wS k) → sCh 0 (wAt k + j) = sCh (wS k) j) := by
  obtain ⟨-, h1, -, -, h5, h6⟩ := w_facts k hk
  by_cases c : j = sLn (wS k)
  · rw [c]
    exact ⟨⟨fun _ => rfl, fun _ => h5⟩, fun q => by omega⟩
  · have h7 := h6 j.toNat (by omega)
    rw [show ((j.toNat : Nat) : Int) = j by omega] at h7
    refine ⟨⟨fun q => ?_, fun q => absurd q c⟩, fun _ => h7.1⟩
    rw [h7.1] at q
    exact absurd q h7.2
theorem wIdN_s (x : Int → Int) (q t : Int) {k : Nat} (hk : k < 12) : wIdN x q t (12 - k) k = if isW x q t (wS k) = true then (k : Int) else wIdN x q t (12 - (k + 1)) (k + 1) := by
  have e : 12 - k = (12 - (k + 1)) + 1 := by omega
  rw [e]
  rfl
theorem wAt_lt : ∀ k : Nat, k ≤ 12 → (wAt k : Int) ≤ 57 ∧ ((wAt k : Int) < 57 ↔ k < 12) := by decide +kernel
theorem dX2_wordAt_0 : decode cX2_wordAt 0 = .ok (.iconst 0, 1) := by decide +kernel
theorem dX2_wordAt_1 : decode cX2_wordAt 1 = .ok (.istore_n 3, 1) := by decide +kernel
theorem dX2_wordAt_2 : decode cX2_wordAt 2 = .ok (.iconst 1, 1) := by decide +kernel
theorem dX2_wordAt_3 : decode cX2_wordAt 3 = .ok (.istore 4, 2) := by decide +kernel
theorem dX2_wordAt_5 : decode cX2_wordAt 5 = .ok (.iload 4, 2) := by decide +kernel
theorem dX2_wordAt_7 : decode cX2_wordAt 7 = .ok (.ldc_w 263, 3) := by decide +kernel
theorem dX2_wordAt_10 : decode cX2_wordAt 10 = .ok (.invokevirtual 265, 3) := by decide +kernel
theorem dX2_wordAt_13 : decode cX2_wordAt 13 = .ok (.if_icmp .ge 116, 3) := by decide +kernel
theorem dX2_wordAt_16 : decode cX2_wordAt 16 = .ok (.iconst 0, 1) := by decide +kernel
theorem dX2_wordAt_17 : decode cX2_wordAt 17 = .ok (.istore 5, 2) := by decide +kernel
theorem dX2_wordAt_19 : decode cX2_wordAt 19 = .ok (.ldc_w 263, 3) := by decide +kernel
theorem dX2_wordAt_22 : decode cX2_wordAt 22 = .ok (.iload 4, 2) := by decide +kernel
theorem dX2_wordAt_24 : decode cX2_wordAt 24 = .ok (.iload 5, 2) := by decide +kernel
theorem dX2_wordAt_26 : decode cX2_wordAt 26 = .ok (.iadd, 1) := by decide +kernel
theorem dX2_wordAt_27 : decode cX2_wordAt 27 = .ok (.invokevirtual 269, 3) := by decide +kernel
theorem dX2_wordAt_30 : decode cX2_wordAt 30 = .ok (.bipush 32, 2) := by decide +kernel
theorem dX2_wordAt_32 : decode cX2_wordAt 32 = .ok (.if_icmp .eq 9, 3) := by decide +kernel
theorem dX2_wordAt_35 : decode cX2_wordAt 35 = .ok (.iinc 5 1, 3) := by decide +kernel
theorem dX2_wordAt_38 : decode cX2_wordAt 38 = .ok (.goto (-19), 3) := by decide +kernel
theorem dX2_wordAt_41 : decode cX2_wordAt 41 = .ok (.iload 5, 2) := by decide +kernel
theorem dX2_wordAt_43 : decode cX2_wordAt 43 = .ok (.iload_n 2, 1) := by decide +kernel
theorem dX2_wordAt_44 : decode cX2_wordAt 44 = .ok (.iload_n 1, 1) := by decide +kernel
theorem dX2_wordAt_45 : decode cX2_wordAt 45 = .ok (.isub, 1) := by decide +kernel
theorem dX2_wordAt_46 : decode cX2_wordAt 46 = .ok (.if_icmp .ne 7, 3) := by decide +kernel
theorem dX2_wordAt_49 : decode cX2_wordAt 49 = .ok (.iconst 1, 1) := by decide +kernel
theorem dX2_wordAt_50 : decode cX2_wordAt 50 = .ok (.goto 4, 3) := by decide +kernel
theorem dX2_wordAt_53 : decode cX2_wordAt 53 = .ok (.iconst 0, 1) := by decide +kernel
theorem dX2_wordAt_54 : decode cX2_wordAt 54 = .ok (.istore 6, 2) := by decide +kernel
theorem dX2_wordAt_56 : decode cX2_wordAt 56 = .ok (.iconst 0, 1) := by decide +kernel
theorem dX2_wordAt_57 : decode cX2_wordAt 57 = .ok (.istore 7, 2) := by decide +kernel
theorem dX2_wordAt_59 : decode cX2_wordAt 59 = .ok (.iload 7, 2) := by decide +kernel
theorem dX2_wordAt_61 : decode cX2_wordAt 61 = .ok (.iload 5, 2) := by decide +kernel
theorem dX2_wordAt_63 : decode cX2_wordAt 63 = .ok (.if_icmp .ge 44, 3) := by decide +kernel
theorem dX2_wordAt_66 : decode cX2_wordAt 66 = .ok (.iload 6, 2) := by decide +kernel
theorem dX2_wordAt_68 : decode cX2_wordAt 68 = .ok (.ifCond .eq 39, 3) := by decide +kernel
theorem dX2_wordAt_71 : decode cX2_wordAt 71 = .ok (.ldc_w 263, 3) := by decide +kernel
theorem dX2_wordAt_74 : decode cX2_wordAt 74 = .ok (.iload 4, 2) := by decide +kernel
theorem dX2_wordAt_76 : decode cX2_wordAt 76 = .ok (.iload 7, 2) := by decide +kernel
theorem dX2_wordAt_78 : decode cX2_wordAt 78 = .ok (.iadd, 1) := by decide +kernel
theorem dX2_wordAt_79 : decode cX2_wordAt 79 = .ok (.invokevirtual 269, 3) := by decide +kernel
theorem dX2_wordAt_82 : decode cX2_wordAt 82 = .ok (.aload_n 0, 1) := by decide +kernel
theorem dX2_wordAt_83 : decode cX2_wordAt 83 = .ok (.getfield 126, 3) := by decide +kernel
theorem dX2_wordAt_86 : decode cX2_wordAt 86 = .ok (.iload_n 1, 1) := by decide +kernel
theorem dX2_wordAt_87 : decode cX2_wordAt 87 = .ok (.iload 7, 2) := by decide +kernel
theorem dX2_wordAt_89 : decode cX2_wordAt 89 = .ok (.iadd, 1) := by decide +kernel
theorem dX2_wordAt_90 : decode cX2_wordAt 90 = .ok (.baload, 1) := by decide +kernel
theorem dX2_wordAt_91 : decode cX2_wordAt 91 = .ok (.if_icmp .ne 7, 3) := by decide +kernel
theorem dX2_wordAt_94 : decode cX2_wordAt 94 = .ok (.iconst 1, 1) := by decide +kernel
theorem dX2_wordAt_95 : decode cX2_wordAt 95 = .ok (.goto 4, 3) := by decide +kernel
theorem dX2_wordAt_98 : decode cX2_wordAt 98 = .ok (.iconst 0, 1) := by decide +kernel
theorem dX2_wordAt_99 : decode cX2_wordAt 99 = .ok (.istore 6, 2) := by decide +kernel
theorem dX2_wordAt_101 : decode cX2_wordAt 101 = .ok (.iinc 7 1, 3) := by decide +kernel
theorem dX2_wordAt_104 : decode cX2_wordAt 104 = .ok (.goto (-45), 3) := by decide +kernel
theorem dX2_wordAt_107 : decode cX2_wordAt 107 = .ok (.iload 6, 2) := by decide +kernel
theorem dX2_wordAt_109 : decode cX2_wordAt 109 = .ok (.ifCond .eq 5, 3) := by decide +kernel
theorem dX2_wordAt_112 : decode cX2_wordAt 112 = .ok (.iload_n 3, 1) := by decide +kernel
theorem dX2_wordAt_113 : decode cX2_wordAt 113 = .ok (.ireturn, 1) := by decide +kernel
theorem dX2_wordAt_114 : decode cX2_wordAt 114 = .ok (.iinc 3 1, 3) := by decide +kernel
theorem dX2_wordAt_117 : decode cX2_wordAt 117 = .ok (.iload 4, 2) := by decide +kernel
theorem dX2_wordAt_119 : decode cX2_wordAt 119 = .ok (.iload 5, 2) := by decide +kernel
theorem dX2_wordAt_121 : decode cX2_wordAt 121 = .ok (.iconst 1, 1) := by decide +kernel
theorem dX2_wordAt_122 : decode cX2_wordAt 122 = .ok (.iadd, 1) := by decide +kernel
theorem dX2_wordAt_123 : decode cX2_wordAt 123 = .ok (.iadd, 1) := by decide +kernel
theorem dX2_wordAt_124 : decode cX2_wordAt 124 = .ok (.istore 4, 2) := by decide +kernel
theorem dX2_wordAt_126 : decode cX2_wordAt 126 = .ok (.goto (-121), 3) := by decide +kernel
theorem dX2_wordAt_129 : decode cX2_wordAt 129 = .ok (.iconst (-1), 1) := by decide +kernel
theorem dX2_wordAt_130 : decode cX2_wordAt 130 = .ok (.ireturn, 1) := by decide +kernel
set_option maxHeartbeats 4000000 in
theorem met_wordAt (l : Launch) (adK adV st : Nat → Nat) (D : va_G) (E : Nat → ClassId) (A : Nat → Prop) (h : Nat) (ad : Nat → Nat) (I : Nat → Int) (F : Nat → Int → Int) (q t : Int) (hq : 0 ≤ q ∧ q ≤ t ∧ t ≤ 300) (gl : gTxt I F) : ME l yX2_wordAt cX2_wordAt 8 (some .int) (mrm 4) adK adV st D E A h ad [.int (iI q), .int (iI t)] I F (MQi D E A h ad (fun z I1 F1 => wId (F 47) q t = z ∧ I = I1 ∧ F = F1)) := by
  refine m_startE (by decide) rfl (Nat.le_of_ble_eq_true rfl) ?_
  intro p e R s m args below meth c ls Q hR hQ hC hml hr hlk hM hS hE hl
  have hx := hC.1
  have hb := hC.2.1
  have hown := hC.2.2.1
  have hts := hC.2.2.2.1
  have hl : lv_has ls 8 [(0, .ref h), (1, .int (iI q)), (2, .int (iI t))] := hl
  obtain ⟨i48, a47⟩ := gl
  have e57 : sLn 0 = 57 := rfl
  refine r_iconst hx hb dX2_wordAt_0 ?_
  refine lv_istore_n (lv' := [(3, .int (iI 0)), (0, .ref h), (1, .int (iI q)), (2, .int (iI t))]) hx hb dX2_wordAt_1 rfl hl (by decide) rfl (fun ls hl => ?_)
  refine r_iconst hx hb dX2_wordAt_2 ?_
  refine lv_istore (lv' := [(4, .int (iI 1)), (3, .int (iI 0)), (0, .ref h), (1, .int (iI q)), (2, .int (iI t))]) hx hb dX2_wordAt_3 hl (by decide) rfl (fun ls hl => ?_)
  have loop5_1 : ∀ (n : Nat) (k i : Int), 57 - i < (n : Int) → i ≤ 57 → (∃ kn : Nat, k = kn ∧ i = wAt kn ∧ kn ≤ 12 ∧ wIdN (F 47) q t (12 - kn) kn = wId (F 47) q t) → ∀ (H : Heap) (locs : List Loc) (ls : Array Slot), MW D E A h ad I F H → va_S A s.heap H locs → lv_has ls 8 [(4, .int (iI i)), (3, .int (iI k)), (0, .ref h), (1, .int (iI q)), (2, .int (iI t))] → W p l e R s m args below meth c H locs 0 0 Q (F0 m 5 ls []) := by
    intro n
    induction n with
    | zero => intro k i hn3 hi57 ek; exfalso; omega
    | succ n ih2 =>
      intro k i hn3 hi57 ek H locs ls hM hS hl
      obtain ⟨kn, rfl, rfl, hkn, ek⟩ := ek
      have hat := wAt_lt kn hkn
      refine lv_iload hx hb dX2_wordAt_5 (lv_at hl 0 rfl) ?_
      refine e_strW hx hb hE (i := 0) rfl hown dX2_wordAt_7 ?_
      refine s_calli (j_runV (n := 0) (C := RJ8) (b := adK 0) (rest := [.int (iI (wAt kn : Int))]) (as := []) hx hb hml hown hts (met_strlen l adK adV st A 0 (by decide)) EV.blind (hE.at hS) (e_rec hE hS (by decide)) q1400 q392 q393 q87 q394 (by decide +kernel) ⟨rfl, rfl⟩ hR (by decide) ⟨Nat.zero_le _, Nat.zero_le _⟩ rfl hl.1 rfl (Nat.le_of_ble_eq_true rfl) dX2_wordAt_10) ?_
      refine r_icmp_ge (tgt := 129) hx hb dX2_wordAt_13 (by decide) (by omega) (by omega) (fun c4 => ?_) (fun c4 => ?_)
      · have e12 : kn = 12 := by omega
        subst e12
        refine r_iconst hx hb dX2_wordAt_129 ?_
        exact m_iret hC hQ hr hlk hM hS dX2_wordAt_130 (⟨ek.symm, rfl, rfl⟩)
      · have hk12 : kn < 12 := by omega
        obtain ⟨hw14, hwl, hwn, hw57, -, -⟩ := w_facts kn hk12
        refine r_iconst hx hb dX2_wordAt_16 ?_
        refine lv_istore (lv' := [(5, .int (iI 0)), (4, .int (iI (wAt kn : Int))), (3, .int (iI (kn : Int))), (0, .ref h), (1, .int (iI q)), (2, .int (iI t))]) hx hb dX2_wordAt_17 hl (by decide) rfl (fun ls hl => ?_)
        have loop19_5 : ∀ (n : Nat) (nn : Int), (sLn (wS kn)) - nn < (n : Int) → 0 ≤ nn → nn ≤ (sLn (wS kn)) → ∀ (H : Heap) (locs : List Loc) (ls : Array Slot), MW D E A h ad I F H → va_S A s.heap H locs → lv_has ls 8 [(5, .int (iI nn)), (4, .int (iI (wAt kn : Int))), (3, .int (iI (kn : Int))), (0, .ref h), (1, .int (iI q)), (2, .int (iI t))] → W p l e R s m args below meth c H locs 0 0 Q (F0 m 19 ls []) := by
          intro n
          induction n with
          | zero => intro nn hn7 hn0 hn1; exfalso; omega
          | succ n ih6 =>
            intro nn hn7 hn0 hn1 H locs ls hM hS hl
            have hcc := w_char hk12 (j := nn) (by omega)
            have hcb := sCh_bd 0 (wAt kn + nn)
            refine e_strW hx hb hE (i := 0) rfl hown dX2_wordAt_19 ?_
            refine lv_iload hx hb dX2_wordAt_22 (lv_at hl 1 rfl) ?_
            refine lv_iload hx hb dX2_wordAt_24 (lv_at hl 0 rfl) ?_
            refine r_iadd hx hb dX2_wordAt_26 ?_
            refine s_calli (j_runV (n := 1) (C := RJ8) (b := adK 0) (rest := []) (as := [.int (iI ((wAt kn : Int) + nn))]) hx hb hml hown hts (met_charAt l adK adV st A 0 ((wAt kn : Int) + nn) (by decide) (by omega)) EV.blind (hE.at hS) (e_rec hE hS (by decide)) q1401 q475 q476 q87 q477 (by decide +kernel) ⟨rfl, rfl⟩ hR (by decide) ⟨Nat.zero_le _, Nat.zero_le _⟩ rfl hl.1 rfl (Nat.le_of_ble_eq_true rfl) dX2_wordAt_27) ?_
            refine r_bipush hx hb dX2_wordAt_30 (by decide) ?_
            refine r_icmp_eq (tgt := 41) hx hb dX2_wordAt_32 (by decide) (by omega) (by decide) (fun cs => ?_) (fun cs => ?_)
            · have en : nn = (sLn (wS kn)) := hcc.1.mp cs
              refine lv_iload hx hb dX2_wordAt_41 (lv_at hl 0 rfl) ?_
              refine lv_iload_n hx hb dX2_wordAt_43 rfl (lv_at hl 5 rfl) ?_
              refine lv_iload_n hx hb dX2_wordAt_44 rfl (lv_at hl 4 rfl) ?_
              refine r_isub hx hb dX2_wordAt_45 ?_
              have jn8 : W p l e R s m args below meth c H locs 0 0 Q (F0 m 54 ls [.int (iI (if nn = (t - q) then 1 else 0))]) := by
                refine lv_istore (lv' := [(6, .int (iI (if nn = (t - q) then 1 else 0))), (5, .int (iI nn)), (4, .int (iI (wAt kn : Int))), (3, .int (iI (kn : Int))), (0, .ref h), (1, .int (iI q)), (2, .int (iI t))]) hx hb dX2_wordAt_54 hl (by decide) rfl (fun ls hl => ?_)
                refine r_iconst hx hb dX2_wordAt_56 ?_
                refine lv_istore (lv' := [(7, .int (iI 0)), (6, .int (iI (if nn = (t - q) then 1 else 0))), (5, .int (iI nn)), (4, .int (iI (wAt kn : Int))), (3, .int (iI (kn : Int))), (0, .ref h), (1, .int (iI q)), (2, .int (iI t))]) hx hb dX2_wordAt_57 hl (by decide) rfl (fun ls hl => ?_)
                have k107 : ∀ (sa : Int) (H : Heap) (locs : List Loc) (ls : Array Slot), (sa = if isW (F 47) q t (wS kn) = true then 1 else 0) → MW D E A h ad I F H → va_S A s.heap H locs → lv_has ls 8 [(5, .int (iI nn)), (4, .int (iI (wAt kn : Int))), (3, .int (iI (kn : Int))), (0, .ref h), (1, .int (iI q)), (2, .int (iI t)), (6, .int (iI sa))] → W p l e R s m args below meth c H locs 0 0 Q (F0 m 107 ls []) := by
                  intro sa H locs ls hsa hM hS hl
                  have bsa : sa = 0 ∨ sa = 1 := by rw [hsa]; split <;> simp
                  refine lv_iload hx hb dX2_wordAt_107 (lv_at hl 6 rfl) ?_
                  refine r_if_eq (tgt := 114) hx hb dX2_wordAt_109 (by decide) (by omega) (fun cz => ?_) (fun cz => ?_)
                  · have hni : ¬ isW (F 47) q t (wS kn) = true := fun q2 => by rw [if_pos q2] at hsa; omega
                    refine lv_iinc (v := iI ((kn : Int) + 1)) (lv' := [(3, .int (iI ((kn : Int) + 1))), (5, .int (iI nn)), (4, .int (iI (wAt kn : Int))), (0, .ref h), (1, .int (iI q)), (2, .int (iI t)), (6, .int (iI sa))]) hx hb dX2_wordAt_114 hl (k := 2) rfl (iI_add _ _) (by decide) rfl (fun ls hl => ?_)
                    refine lv_iload hx hb dX2_wordAt_117 (lv_at hl 2 rfl) ?_
                    refine lv_iload hx hb dX2_wordAt_119 (lv_at hl 1 rfl) ?_
                    refine r_iconst hx hb dX2_wordAt_121 ?_
                    refine r_iadd hx hb dX2_wordAt_122 ?_
                    refine r_iadd hx hb dX2_wordAt_123 ?_
                    refine lv_istore (lv' := [(4, .int (iI ((wAt kn : Int) + (nn + 1)))), (3, .int (iI ((kn : Int) + 1))), (5, .int (iI nn)), (0, .ref h), (1, .int (iI q)), (2, .int (iI t)), (6, .int (iI sa))]) hx hb dX2_wordAt_124 hl (by decide) rfl (fun ls hl => ?_)
                    refine lv_goto (tgt := 5) hx hb dX2_wordAt_126 (by decide) ?_
                    exact ih2 ((kn : Int) + 1) ((wAt kn : Int) + (nn + 1)) (by omega) (by have := (wAt_lt (kn + 1) (by omega)).1; omega) (⟨kn + 1, by omega, by rw [hwn, en]; omega, by omega, by rw [← ek, wIdN_s _ _ _ hk12, if_neg hni]⟩) _ _ _ hM hS (lv_sub hl [0, 1, 3, 4, 5] rfl)
                  · have hni : isW (F 47) q t (wS kn) = true := by
                      by_cases c : isW (F 47) q t (wS kn) = true
                      · exact c
                      · rw [if_neg c] at hsa; exact absurd hsa cz
                    refine lv_iload_n hx hb dX2_wordAt_112 rfl (lv_at hl 2 rfl) ?_
                    exact m_iret hC hQ hr hlk hM hS dX2_wordAt_113 (⟨by rw [← ek, wIdN_s _ _ _ hk12, if_pos hni], rfl, rfl⟩)
                have loop59_9 : ∀ (n : Nat) (sa j : Int), nn - j < (n : Int) → 0 ≤ j → j ≤ nn → (sa = if (decide (t - q = (sLn (wS kn))) && eqN (F 47) q (wS kn) j.toNat) = true then 1 else 0) → ∀ (H : Heap) (locs : List Loc) (ls : Array Slot), MW D E A h ad I F H → va_S A s.heap H locs → lv_has ls 8 [(7, .int (iI j)), (6, .int (iI sa)), (5, .int (iI nn)), (4, .int (iI (wAt kn : Int))), (3, .int (iI (kn : Int))), (0, .ref h), (1, .int (iI q)), (2, .int (iI t))] → W p l e R s m args below meth c H locs 0 0 Q (F0 m 59 ls []) := by
                  intro n
                  induction n with
                  | zero => intro sa j hn11 hj0 hj1 hsa; exfalso; omega
                  | succ n ih10 =>
                    intro sa j hn11 hj0 hj1 hsa H locs ls hM hS hl
                    have bsa : sa = 0 ∨ sa = 1 := by rw [hsa]; split <;> simp
                    refine lv_iload hx hb dX2_wordAt_59 (lv_at hl 0 rfl) ?_
                    refine lv_iload hx hb dX2_wordAt_61 (lv_at hl 2 rfl) ?_
                    refine r_icmp_ge (tgt := 107) hx hb dX2_wordAt_63 (by decide) (by omega) (by omega) (fun c12 => ?_) (fun c12 => ?_)
                    · exact k107 sa _ _ _ (by rw [hsa, show j = (sLn (wS kn)) by omega]; rfl) hM hS (lv_sub hl [2, 3, 4, 5, 6, 7, 1] rfl)
                    · refine lv_iload hx hb dX2_wordAt_66 (lv_at hl 1 rfl) ?_
                      refine r_if_eq (tgt := 107) hx hb dX2_wordAt_68 (by decide) (by omega) (fun cz => ?_) (fun cz => ?_)
                      · exact k107 sa _ _ _ (by rw [cz] at hsa ⊢; rw [if_neg (fun q2 => ?_)]; unfold isW at q2; rw [Bool.and_eq_true] at q2; rw [if_pos (by rw [q2.1, eqN_mono _ _ (by omega) q2.2]; rfl)] at hsa; cases hsa) hM hS (lv_sub hl [2, 3, 4, 5, 6, 7, 1] rfl)
                      · have hall : (decide (t - q = (sLn (wS kn))) && eqN (F 47) q (wS kn) j.toNat) = true := by
                          by_cases c : (decide (t - q = (sLn (wS kn))) && eqN (F 47) q (wS kn) j.toNat) = true
                          · exact c
                          · rw [if_neg c] at hsa; exact absurd hsa cz
                        have htq : t - q = (sLn (wS kn)) := by rw [Bool.and_eq_true] at hall; exact of_decide_eq_true hall.1
                        have hcj := (w_char hk12 (j := j) (by omega)).2 (by omega)
                        have hcb2 := sCh_bd 0 (wAt kn + j)
                        have b47 := a47 (q + j) (by omega) (by omega)
                        refine e_strW hx hb hE (i := 0) rfl hown dX2_wordAt_71 ?_
                        refine lv_iload hx hb dX2_wordAt_74 (lv_at hl 3 rfl) ?_
                        refine lv_iload hx hb dX2_wordAt_76 (lv_at hl 0 rfl) ?_
                        refine r_iadd hx hb dX2_wordAt_78 ?_
                        refine s_calli (j_runV (n := 1) (C := RJ8) (b := adK 0) (rest := []) (as := [.int (iI ((wAt kn : Int) + j))]) hx hb hml hown hts (met_charAt l adK adV st A 0 ((wAt kn : Int) + j) (by decide) (by omega)) EV.blind (hE.at hS) (e_rec hE hS (by decide)) q1401 q475 q476 q87 q477 (by decide +kernel) ⟨rfl, rfl⟩ hR (by decide) ⟨Nat.zero_le _, Nat.zero_le _⟩ rfl hl.1 rfl (Nat.le_of_ble_eq_true rfl) dX2_wordAt_79) ?_
                        refine lv_aload_n hx hb dX2_wordAt_82 rfl (lv_at hl 5 rfl) ?_
                        refine mg_47 hC hM dX2_wordAt_83 ?_
                        refine lv_iload_n hx hb dX2_wordAt_86 rfl (lv_at hl 6 rfl) ?_
                        refine lv_iload hx hb dX2_wordAt_87 (lv_at hl 0 rfl) ?_
                        refine r_iadd hx hb dX2_wordAt_89 ?_
                        refine ml_47 (v := F 47 (q + j)) hC hM (by omega) rfl dX2_wordAt_90 ?_
                        have jn13 : W p l e R s m args below meth c H locs 0 0 Q (F0 m 99 ls [.int (iI (if sCh 0 ((wAt kn : Int) + j) = F 47 (q + j) then 1 else 0))]) := by
                          refine lv_istore (lv' := [(6, .int (iI (if sCh 0 ((wAt kn : Int) + j) = F 47 (q + j) then 1 else 0))), (7, .int (iI j)), (5, .int (iI nn)), (4, .int (iI (wAt kn : Int))), (3, .int (iI (kn : Int))), (0, .ref h), (1, .int (iI q)), (2, .int (iI t))]) hx hb dX2_wordAt_99 hl (by decide) rfl (fun ls hl => ?_)
                          refine lv_iinc (v := iI (j + 1)) (lv' := [(7, .int (iI (j + 1))), (6, .int (iI (if sCh 0 ((wAt kn : Int) + j) = F 47 (q + j) then 1 else 0))), (5, .int (iI nn)), (4, .int (iI (wAt kn : Int))), (3, .int (iI (kn : Int))), (0, .ref h), (1, .int (iI q)), (2, .int (iI t))]) hx hb dX2_wordAt_101 hl (k := 1) rfl (iI_add _ _) (by decide) rfl (fun ls hl => ?_)
                          refine lv_goto (tgt := 59) hx hb dX2_wordAt_104 (by decide) ?_
                          exact ih10 (if sCh 0 ((wAt kn : Int) + j) = F 47 (q + j) then 1 else 0) (j + 1) (by omega) (by omega) (by omega) (by rw [eqN_s hj0, hcj]; rw [Bool.and_eq_true] at hall; rw [hall.1, hall.2]; by_cases c : sCh (wS kn) j = F 47 (q + j); rw [if_pos c, if_pos (by simp [c])]; rw [if_neg c, if_neg (by simp [Ne.symm c])]) _ _ _ hM hS (lv_sub hl [0, 1, 2, 3, 4, 5, 6, 7] rfl)
                        refine r_icmp_ne (tgt := 98) hx hb dX2_wordAt_91 (by decide) (by omega) (by omega) (fun c14 => ?_) (fun c14 => ?_)
                        · refine r_iconst hx hb dX2_wordAt_98 ?_
                          rw [if_neg (by omega)] at jn13
                          exact jn13
                        · refine r_iconst hx hb dX2_wordAt_94 ?_
                          refine lv_goto (tgt := 99) hx hb dX2_wordAt_95 (by decide) ?_
                          rw [if_pos (by omega)] at jn13
                          exact jn13
                exact loop59_9 ((nn - 0 : Int).toNat + 1) (if nn = (t - q) then 1 else 0) 0 (by omega) (by omega) (by omega) (by rw [en]; by_cases c : t - q = (sLn (wS kn)); rw [if_pos (show (sLn (wS kn)) = t - q by omega), if_pos (by simp [eqN, c])]; rw [if_neg (show ¬ (sLn (wS kn)) = t - q by omega), if_neg (by simp [c])]) _ _ _ hM hS (lv_sub hl [0, 1, 2, 3, 4, 5, 6, 7] rfl)
              refine r_icmp_ne (tgt := 53) hx hb dX2_wordAt_46 (by decide) (by omega) (by omega) (fun c15 => ?_) (fun c15 => ?_)
              · refine r_iconst hx hb dX2_wordAt_53 ?_
                rw [if_neg (by omega)] at jn8
                exact jn8
              · refine r_iconst hx hb dX2_wordAt_49 ?_
                refine lv_goto (tgt := 54) hx hb dX2_wordAt_50 (by decide) ?_
                rw [if_pos (by omega)] at jn8
                exact jn8
            · have hn2 : nn < (sLn (wS kn)) := by have : ¬ nn = (sLn (wS kn)) := fun q2 => cs (hcc.1.mpr q2); omega
              refine lv_iinc (v := iI (nn + 1)) (lv' := [(5, .int (iI (nn + 1))), (4, .int (iI (wAt kn : Int))), (3, .int (iI (kn : Int))), (0, .ref h), (1, .int (iI q)), (2, .int (iI t))]) hx hb dX2_wordAt_35 hl (k := 0) rfl (iI_add _ _) (by decide) rfl (fun ls hl => ?_)
              refine lv_goto (tgt := 19) hx hb dX2_wordAt_38 (by decide) ?_
              exact ih6 (nn + 1) (by omega) (by omega) (by omega) _ _ _ hM hS (lv_sub hl [0, 1, 2, 3, 4, 5] rfl)
        exact loop19_5 (((sLn (wS kn)) - 0 : Int).toNat + 1) 0 (by omega) (by omega) (by omega) _ _ _ hM hS (lv_sub hl [0, 1, 2, 3, 4, 5] rfl)
  exact loop5_1 ((57 - 1 : Int).toNat + 1) 0 1 (by omega) (by decide) (⟨0, rfl, rfl, by decide, rfl⟩) _ _ _ hM hS (lv_sub hl [0, 1, 2, 3, 4] rfl)
