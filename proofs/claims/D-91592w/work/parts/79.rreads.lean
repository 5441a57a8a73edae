/-! THE READER: reads -/
set_option maxRecDepth 100000
theorem dX9_reads_0 : decode cX9_reads 0 = .ok (.aload_n 0, 1) := by decide +kernel
theorem dX9_reads_1 : decode cX9_reads 1 = .ok (.invokevirtual 105, 3) := by decide +kernel
theorem dX9_reads_4 : decode cX9_reads 4 = .ok (.iconst 1, 1) := by decide +kernel
theorem dX9_reads_5 : decode cX9_reads 5 = .ok (.istore_n 1, 1) := by decide +kernel
theorem dX9_reads_6 : decode cX9_reads 6 = .ok (.aload_n 0, 1) := by decide +kernel
theorem dX9_reads_7 : decode cX9_reads 7 = .ok (.getfield 70, 3) := by decide +kernel
theorem dX9_reads_10 : decode cX9_reads 10 = .ok (.iconst 3, 1) := by decide +kernel
theorem dX9_reads_11 : decode cX9_reads 11 = .ok (.if_icmp .eq 15, 3) := by decide +kernel
theorem dX9_reads_14 : decode cX9_reads 14 = .ok (.iload_n 1, 1) := by decide +kernel
theorem dX9_reads_15 : decode cX9_reads 15 = .ok (.ifCond .eq 11, 3) := by decide +kernel
theorem dX9_reads_18 : decode cX9_reads 18 = .ok (.aload_n 0, 1) := by decide +kernel
theorem dX9_reads_19 : decode cX9_reads 19 = .ok (.invokevirtual 169, 3) := by decide +kernel
theorem dX9_reads_22 : decode cX9_reads 22 = .ok (.istore_n 1, 1) := by decide +kernel
theorem dX9_reads_23 : decode cX9_reads 23 = .ok (.goto (-17), 3) := by decide +kernel
theorem dX9_reads_26 : decode cX9_reads 26 = .ok (.iload_n 1, 1) := by decide +kernel
theorem dX9_reads_27 : decode cX9_reads 27 = .ok (.ifCond .eq 10, 3) := by decide +kernel
theorem dX9_reads_30 : decode cX9_reads 30 = .ok (.aload_n 0, 1) := by decide +kernel
theorem dX9_reads_31 : decode cX9_reads 31 = .ok (.getfield 49, 3) := by decide +kernel
theorem dX9_reads_34 : decode cX9_reads 34 = .ok (.goto 4, 3) := by decide +kernel
theorem dX9_reads_37 : decode cX9_reads 37 = .ok (.aconst_null, 1) := by decide +kernel
theorem dX9_reads_38 : decode cX9_reads 38 = .ok (.areturn, 1) := by decide +kernel
set_option maxHeartbeats 4000000 in
theorem met_rreads (l : Launch) (adK adV st : Nat → Nat) (D : va_G) (E : Nat → ClassId) (A : Nat → Prop) (V : Nat → Prop) (ad : Nat → Nat) (C : Nat → va_E) (x : Int → Int) (n : Int) (hn : 0 ≤ n ∧ n ≤ 300) (hbx : Bd x 300 (-128) 127) (k fr vl mo : Int) (cap : Nat) (cs0 : Int → Int) (hRD : RD E adK x n V ad C k fr 0 vl (-1) mo cap 0 []) (hCL : CL E V ad C (fun _ => -1) cs0 0) : AM l yX9_reads cX9_reads 2 (some (.array (.array (.object "ShipSways$Mark")))) (amr 71 2100 12000) adK adV st D E A [.ref (ad 6000)] V ad C (AQw D E A (fun v ad1 V1 C1 => OC V ad C V1 ad1 C1 ∧ (((rwS x n 3 0 [] 0 (fun _ => -1) cs0).1 = true ∧ v = .ref (ad1 6005) ∧ ∃ k1 fr1 to1 vl1 mo1 cap1 b1, RD E adK x n V1 ad1 C1 k1 fr1 to1 vl1 (-1) mo1 cap1 b1 (rwS x n 3 0 [] 0 (fun _ => -1) cs0).2.2.1 ∧ CL E V1 ad1 C1 (rwS x n 3 0 [] 0 (fun _ => -1) cs0).2.2.2.2.1 (rwS x n 3 0 [] 0 (fun _ => -1) cs0).2.2.2.2.2 (rwS x n 3 0 [] 0 (fun _ => -1) cs0).2.2.1.length ∧ (rwS x n 3 0 [] 0 (fun _ => -1) cs0).2.2.1.length ≤ 300) ∨ ((rwS x n 3 0 [] 0 (fun _ => -1) cs0).1 = false ∧ v = .null ∧ (V1 6000 ∧ ∃ k1 fr1 to1 vl1, R32 k1 ∧ C1 6000 = .inr (8, [.ref (ad1 6001), .ref (ad1 6002), .ref (ad1 1), .int (iI n), .ref (ad1 6003), .ref (ad1 6005), .int (iI k1), .int (iI fr1), .int (iI to1), .int (iI vl1), .int (iI (tF x n ((rwS x n 3 0 [] 0 (fun _ => -1) cs0).2.1)))])))))) 2100 12000 := by
  refine a_start (by decide) rfl (Nat.le_of_ble_eq_true rfl) ?_
  intro pp e R s m args below meth c ls Q hR hQ hCK hml hr hlk hnme hG hS hE hA hl
  have hx := hCK.1
  have hb := hCK.2.1
  have hown := hCK.2.2.1
  have hts := hCK.2.2.2.1
  have hK := hCK.2.2.2.2
  have hl : lv_has ls 2 [(0, .ref (ad 6000))] := hl
  have v_rd := hRD.2.1.1
  have k_rd := hRD.2.1.2
  have v_tx := hRD.1.1
  have k_tx := hRD.1.2
  have e_rd : ad 6000 = (ad 6000) := rfl
  refine lv_aload_n hx hb dX9_reads_0 rfl (lv_at hl 0 rfl) ?_
  have hM := met_rnext l adK adV st D E A V ad C x n k fr 0 vl (-1) hn hbx v_rd k_rd v_tx k_tx (by omega)
  refine a_callv (a_runV (n := 0) (C0 := RX9) (b := (ad 6000)) (rest := []) (as := []) hCK hE hA hml (hM) (by have h := g_rec (r := 6000) (ci := 8) hK hG v_rd rfl k_rd; rw [e_rd] at h; exact h) q363 q365 qs1 q86 q366 (by decide +kernel) ⟨rfl, rfl⟩ hR (amr_ok (by decide) (by decide)) ⟨(by rw [hR]; show _ ≤ (_ : Nat); (try unfold amr); (try simp only []); omega), (by rw [hR]; show _ ≤ (_ : Nat); (try unfold amr); (try simp only []); omega)⟩ hG hS rfl hl.1 rfl (Nat.le_of_ble_eq_true rfl) dX9_reads_1) hS (fun ad2 V3 C4 H locs hp5 hG hS => ?_)
  obtain ⟨rfl, rfl, ⟨vl0, k9, hNA⟩, o9⟩ := hp5
  have hRD := hRD.tok k9 o9
  have hOT : OT 0 V ad C V ad C4 := OT.rf.set o9
  have hCL := hCL.ot hOT (Nat.le_refl _)
  have hOC := hOT.oc
  refine r_iconst hx hb dX9_reads_4 ?_
  refine lv_istore_n (lv' := [(1, .int (iI 1)), (0, .ref (ad 6000))]) hx hb dX9_reads_5 rfl hl (by decide) rfl (fun ls hl => ?_)
  obtain ⟨Rz, eRz⟩ : ∃ R, R = (rwS x n 3 0 [] 0 (fun _ => -1) cs0) := ⟨_, rfl⟩
  rw [← eRz] at hQ
  have loop6_6 : ∀ (nd : Nat) (zf : Int) (j : Nat) (Vg : Nat → Prop) (adg : Nat → Nat) (Cg : Nat → va_E), 4 - (j : Int) < (nd : Int) → ((zf = 1 ∧ ∃ (p vl mo : Int) (cap b0 : Nat) (all : List (Int × Int)) (cl : Int) (bg cs : Int → Int) (kk : Nat), RD E adK x n Vg adg Cg (kC x n p) (tF x n p) (tT x n p) vl (-1) mo cap b0 all ∧ numAt x n p vl ∧ (0 ≤ p ∧ p ≤ n) ∧ (all.length : Int) ≤ p ∧ CL E Vg adg Cg bg cs all.length ∧ Bd bg 2 (-1) 300 ∧ cntB bg < kk ∧ kk + j = 3 ∧ rwS x n kk p all cl bg cs = Rz) ∨ (zf = 0 ∧ Rz.1 = false ∧ j ≤ 3 ∧ (Vg 6000 ∧ ∃ k1 fr1 to1 vl1, R32 k1 ∧ Cg 6000 = .inr (8, [.ref (adg 6001), .ref (adg 6002), .ref (adg 1), .int (iI n), .ref (adg 6003), .ref (adg 6005), .int (iI k1), .int (iI fr1), .int (iI to1), .int (iI vl1), .int (iI (tF x n Rz.2.1))])))) → (OC V ad C Vg adg Cg) → ∀ (H : Heap) (locs : List Loc) (ls : Array Slot), GW D A Vg adg Cg H → va_S A s.heap H locs → lv_has ls 2 [(1, .int (iI zf)), (0, .ref (ad 6000))] → W pp l e R s m args below meth c H locs (700 * j) (4000 * j) Q (F0 m 6 ls []) := by
    intro nd
    induction nd with
    | zero => intro zf j Vg adg Cg hn8 hst hOC; exfalso; omega
    | succ nd ih7 =>
      intro zf j Vg adg Cg hn8 hst hOC H locs ls hG hS hl
      rcases hst with ⟨rfl, p, vl, mo, cap, b0, all, cl, bg, cs, kk, hRD, hNA, hp, hal, hCL, hbg, hcn, hkj, hrw⟩ | ⟨rfl, hR1, hj3, v_rd, k1, fr1, to1, vl1, rk1, k_rd⟩
      · have hl : lv_has ls 2 [(1, .int (iI 1)), (0, .ref (ad 6000))] := hl
        have e_rd : adg 6000 = (ad 6000) := (hOC.1 6000 (Or.inl (by decide))).1
        have v_rd : Vg 6000 := hRD.2.1.1
        have k_rd : Cg 6000 = .inr (8, [.ref (adg 6001), .ref (adg 6002), .ref (adg 1), .int (iI n), .ref (adg 6003), .ref (adg 6005), .int (iI (kC x n p)), .int (iI (tF x n p)), .int (iI (tT x n p)), .int (iI vl), .int (iI (-1))]) := hRD.2.1.2
        obtain ⟨k2, rfl⟩ : ∃ k2, kk = k2 + 1 := ⟨kk - 1, by omega⟩
        refine lv_aload_n hx hb dX9_reads_6 rfl (lv_at hl 1 rfl) ?_
        refine a_get hCK hG 6000 e_rd v_rd k_rd (ci := 8) rfl in_X9 6 (by decide) q330 rfl rfl dX9_reads_7 ?_
        refine W.eq (g2 := F0 m 10 ls [.int (iI (kC x n p))]) rfl ?_
        refine r_iconst hx hb dX9_reads_10 ?_
        refine r_icmp_eq (tgt := 26) hx hb dX9_reads_11 (by decide) (kC_R _ _ _) (by decide) (fun c9 => ?_) (fun c9 => ?_)
        · have hk0 : tK x n p = 0 := by have := kC_cases x n p; omega
          have hrw2 := rwS_0 k2 all cl bg cs hk0
          rw [hrw] at hrw2
          refine lv_iload_n hx hb dX9_reads_26 rfl (lv_at hl 0 rfl) ?_
          refine r_if_eq (tgt := 37) hx hb dX9_reads_27 (by decide) (by decide) (fun c10 => absurd c10 (by decide)) (fun c10 => ?_)
          refine lv_aload_n hx hb dX9_reads_30 rfl (lv_at hl 1 rfl) ?_
          refine a_get hCK hG 6000 e_rd v_rd k_rd (ci := 8) rfl in_X9 5 (by decide) q329 rfl rfl dX9_reads_31 ?_
          refine W.eq (g2 := F0 m 34 ls [.ref (adg 6005)]) rfl ?_
          refine lv_goto (tgt := 38) hx hb dX9_reads_34 (by decide) ?_
          exact a_wret hCK hQ hr (Or.inr ⟨_, rfl⟩) hlk hG hS (by omega) (by omega) (Or.inr ⟨_, rfl⟩) dX9_reads_38 (⟨hOC, Or.inl ⟨by rw [hrw2], rfl, _, _, _, _, _, _, _, by rw [hrw2]; exact hRD, by rw [hrw2]; exact hCL, by rw [hrw2]; show all.length ≤ 300; omega⟩⟩)
        · have htk : ¬ tK x n p = 0 := by have := kC_cases x n p; omega
          refine lv_iload_n hx hb dX9_reads_14 rfl (lv_at hl 0 rfl) ?_
          refine r_if_eq (tgt := 26) hx hb dX9_reads_15 (by decide) (by decide) (fun c11 => absurd c11 (by decide)) (fun c11 => ?_)
          refine lv_aload_n hx hb dX9_reads_18 rfl (lv_at hl 1 rfl) ?_
          have hM := met_clause l adK adV st D E A Vg adg Cg x n hn hbx p vl mo cap b0 all bg cs hRD hNA hp hal hCL hbg htk
          rw [e_rd] at hM
          obtain ⟨a, ea⟩ : ∃ a, ps x n 3000 6 (0 : Int) (tT x n p) = a := ⟨_, rfl⟩
          rw [ea] at hM
          have htb := tB (x := x) hp
          have l_a := ps_len x n 3000 6 (0 : Int) (tT x n p) (tBT hp).2
          rw [ea] at l_a
          refine a_calli (a_runV (n := 0) (C0 := RX9) (b := (ad 6000)) (rest := []) (as := []) hCK hE hA hml (hM) (by have h := g_rec (r := 6000) (ci := 8) hK hG v_rd rfl k_rd; rw [e_rd] at h; exact h) q461 q463 qs3 q86 q464 (by decide +kernel) ⟨rfl, rfl⟩ hR (amr_ok (by decide) (by decide)) ⟨(by rw [hR]; show _ ≤ (_ : Nat); (try unfold amr); (try simp only []); omega), (by rw [hR]; show _ ≤ (_ : Nat); (try unfold amr); (try simp only []); omega)⟩ hG hS rfl hl.1 rfl (Nat.le_of_ble_eq_true rfl) dX9_reads_19) hS (fun z12 ad13 V14 C15 H locs hp16 hG hS => ?_)
          obtain ⟨hoc9, hcs⟩ := hp16
          have hOC : OC V ad C V14 ad13 C15 := ⟨fun q hq => ⟨(hoc9.1 q hq).1.trans (hOC.1 q hq).1, (hoc9.1 q hq).2.trans (hOC.1 q hq).2⟩, fun q hq => (hoc9.2 q hq).trans (hOC.2 q hq)⟩
          refine lv_istore_n (lv' := [(1, .int (iI z12)), (0, .ref (ad 6000))]) hx hb dX9_reads_22 rfl hl (by decide) rfl (fun ls hl => ?_)
          refine lv_goto (tgt := 6) hx hb dX9_reads_23 (by decide) ?_
          refine W.cs (cells' := 700 * (j + 1)) (slots' := 4000 * (j + 1)) (by omega) (by omega) ?_
          rcases hcs with ⟨hc, he, rfl, ⟨vl9, mo9, cap9, hRD9, hN9⟩, hCL9⟩ | ⟨hc, he, rfl, hfa⟩ | ⟨hc, rfl, hfa⟩
          · have hrw2 := rwS_go k2 all cl bg cs ea hc he
            rw [hrw] at hrw2
            have hcu := cntB_upd (v := (all.length : Int)) hc.2.1 hc.2.2 (by omega)
            have ht2 := tB (x := x) (show 0 ≤ a.2.1 ∧ a.2.1 ≤ n by have := l_a.1; omega)
            have hl2 := l_a.2
            have hl1 := l_a.1
            have hl : lv_has ls 2 [(1, .int (iI 1)), (0, .ref (ad 6000))] := hl
            exact ih7 1 (j + 1) V14 ad13 C15 (by omega)  (Or.inl ⟨rfl, _, vl9, mo9, cap9, all.length, _, _, _, _, k2, hRD9, hN9, by omega, by rw [List.length_append]; omega, hCL9, hbg.upd (by omega), by omega, by omega, hrw2.symm⟩) hOC _ _ _ hG hS (lv_sub hl [0, 1] rfl)
          · have hrw2 := rwS_bad k2 all cl bg cs ea hc he
            rw [hrw] at hrw2
            have hl : lv_has ls 2 [(1, .int (iI 0)), (0, .ref (ad 6000))] := hl
            exact ih7 0 (j + 1) V14 ad13 C15 (by omega)  (Or.inr ⟨rfl, by rw [hrw2], by omega, by rw [hrw2]; exact hfa⟩) hOC _ _ _ hG hS (lv_sub hl [0, 1] rfl)
          · have hrw2 := rwS_no k2 all cl bg cs htk hc
            rw [hrw] at hrw2
            have hl : lv_has ls 2 [(1, .int (iI 0)), (0, .ref (ad 6000))] := hl
            exact ih7 0 (j + 1) V14 ad13 C15 (by omega)  (Or.inr ⟨rfl, by rw [hrw2], by omega, by rw [hrw2]; exact hfa⟩) hOC _ _ _ hG hS (lv_sub hl [0, 1] rfl)
      · have hl : lv_has ls 2 [(1, .int (iI 0)), (0, .ref (ad 6000))] := hl
        have e_rd : adg 6000 = (ad 6000) := (hOC.1 6000 (Or.inl (by decide))).1
        refine lv_aload_n hx hb dX9_reads_6 rfl (lv_at hl 1 rfl) ?_
        refine a_get hCK hG 6000 e_rd v_rd k_rd (ci := 8) rfl in_X9 6 (by decide) q330 rfl rfl dX9_reads_7 ?_
        refine W.eq (g2 := F0 m 10 ls [.int (iI k1)]) rfl ?_
        refine r_iconst hx hb dX9_reads_10 ?_
        refine r_icmp_eq (tgt := 26) hx hb dX9_reads_11 (by decide) rk1 (by decide) (fun c17 => ?_) (fun c17 => ?_)
        · refine lv_iload_n hx hb dX9_reads_26 rfl (lv_at hl 0 rfl) ?_
          refine r_if_eq (tgt := 37) hx hb dX9_reads_27 (by decide) (by decide) (fun c18 => ?_) (fun c18 => absurd c18 (by decide))
          refine lv_null hx hb dX9_reads_37 ?_
          exact a_wret hCK hQ hr (Or.inr ⟨_, rfl⟩) hlk hG hS (by omega) (by omega) (Or.inl rfl) dX9_reads_38 (⟨hOC, Or.inr ⟨hR1, rfl, v_rd, k1, fr1, to1, vl1, rk1, k_rd⟩⟩)
        · refine lv_iload_n hx hb dX9_reads_14 rfl (lv_at hl 0 rfl) ?_
          refine r_if_eq (tgt := 26) hx hb dX9_reads_15 (by decide) (by decide) (fun c19 => ?_) (fun c19 => absurd c19 (by decide))
          refine lv_iload_n hx hb dX9_reads_26 rfl (lv_at hl 0 rfl) ?_
          refine r_if_eq (tgt := 37) hx hb dX9_reads_27 (by decide) (by decide) (fun c20 => ?_) (fun c20 => absurd c20 (by decide))
          refine lv_null hx hb dX9_reads_37 ?_
          exact a_wret hCK hQ hr (Or.inr ⟨_, rfl⟩) hlk hG hS (by omega) (by omega) (Or.inl rfl) dX9_reads_38 (⟨hOC, Or.inr ⟨hR1, rfl, v_rd, k1, fr1, to1, vl1, rk1, k_rd⟩⟩)
  exact loop6_6 (5) 1 0 V ad C4 (by omega)  (Or.inl ⟨rfl, 0, vl0, mo, cap, 0, [], 0, (fun _ => -1), cs0, 3, hRD, hNA, by omega, by show (0 : Int) ≤ 0; decide, hCL, fun z _ _ => ⟨by show (-1 : Int) ≤ -1; decide, by show (-1 : Int) ≤ 300; decide⟩, by show 2 < 3; decide, rfl, eRz.symm⟩) hOC _ _ _ hG hS (lv_sub hl [0, 1] rfl)
