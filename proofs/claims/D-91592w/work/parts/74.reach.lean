/-! THE READER: each -/
set_option maxRecDepth 100000
theorem dX9_each_0 : decode cX9_each 0 = .ok (.aload_n 0, 1) := by decide +kernel
theorem dX9_each_1 : decode cX9_each 1 = .ok (.iload_n 1, 1) := by decide +kernel
theorem dX9_each_2 : decode cX9_each 2 = .ok (.invokevirtual 147, 3) := by decide +kernel
theorem dX9_each_5 : decode cX9_each 5 = .ok (.istore_n 2, 1) := by decide +kernel
theorem dX9_each_6 : decode cX9_each 6 = .ok (.iload_n 2, 1) := by decide +kernel
theorem dX9_each_7 : decode cX9_each 7 = .ok (.ifCond .eq 49, 3) := by decide +kernel
theorem dX9_each_10 : decode cX9_each 10 = .ok (.aload_n 0, 1) := by decide +kernel
theorem dX9_each_11 : decode cX9_each 11 = .ok (.ldc 150, 2) := by decide +kernel
theorem dX9_each_13 : decode cX9_each 13 = .ok (.invokevirtual 101, 3) := by decide +kernel
theorem dX9_each_16 : decode cX9_each 16 = .ok (.ifCond .eq 40, 3) := by decide +kernel
theorem dX9_each_19 : decode cX9_each 19 = .ok (.aload_n 0, 1) := by decide +kernel
theorem dX9_each_20 : decode cX9_each 20 = .ok (.invokevirtual 105, 3) := by decide +kernel
theorem dX9_each_23 : decode cX9_each 23 = .ok (.aload_n 0, 1) := by decide +kernel
theorem dX9_each_24 : decode cX9_each 24 = .ok (.iload_n 1, 1) := by decide +kernel
theorem dX9_each_25 : decode cX9_each 25 = .ok (.invokevirtual 147, 3) := by decide +kernel
theorem dX9_each_28 : decode cX9_each 28 = .ok (.ifCond .eq 23, 3) := by decide +kernel
theorem dX9_each_31 : decode cX9_each 31 = .ok (.aload_n 0, 1) := by decide +kernel
theorem dX9_each_32 : decode cX9_each 32 = .ok (.new 116, 3) := by decide +kernel
theorem dX9_each_35 : decode cX9_each 35 = .ok (.dup, 1) := by decide +kernel
theorem dX9_each_36 : decode cX9_each 36 = .ok (.bipush 38, 2) := by decide +kernel
theorem dX9_each_38 : decode cX9_each 38 = .ok (.invokespecial 118, 3) := by decide +kernel
theorem dX9_each_41 : decode cX9_each 41 = .ok (.invokevirtual 119, 3) := by decide +kernel
theorem dX9_each_44 : decode cX9_each 44 = .ok (.ifCond .eq 7, 3) := by decide +kernel
theorem dX9_each_47 : decode cX9_each 47 = .ok (.iconst 1, 1) := by decide +kernel
theorem dX9_each_48 : decode cX9_each 48 = .ok (.goto 4, 3) := by decide +kernel
theorem dX9_each_51 : decode cX9_each 51 = .ok (.iconst 0, 1) := by decide +kernel
theorem dX9_each_52 : decode cX9_each 52 = .ok (.istore_n 2, 1) := by decide +kernel
theorem dX9_each_53 : decode cX9_each 53 = .ok (.goto (-47), 3) := by decide +kernel
theorem dX9_each_56 : decode cX9_each 56 = .ok (.iload_n 2, 1) := by decide +kernel
theorem dX9_each_57 : decode cX9_each 57 = .ok (.ireturn, 1) := by decide +kernel
set_option maxHeartbeats 4000000 in
theorem met_each (l : Launch) (adK adV st : Nat → Nat) (D : va_G) (E : Nat → ClassId) (A : Nat → Prop) (x : Int → Int) (n : Int) (hn : 0 ≤ n ∧ n ≤ 300) (hbx : Bd x 300 (-128) 127) (f : Nat) (ih_test : ∀ f1, f1 < f → GM l adK adV st D E A x n yX9_test cX9_test 3 3 10 4 f1) : GM l adK adV st D E A x n yX9_each cX9_each 3 4 8 5 f := by
  intro V ad C p vl mo cap b0 all dn hd hRD hNA hp hf hal
  obtain ⟨g, rfl⟩ : ∃ g, f = g + 1 := ⟨f - 1, by omega⟩
  obtain ⟨Rz, eR⟩ : ∃ R, R = ps x n (g + 1) 8 (dn : Int) p := ⟨_, rfl⟩
  rw [← eR]
  rw [ps_8] at eR
  have hb0 := hRD.2.2.2.2.2.2.2.2.1
  obtain ⟨m0, hm0⟩ : ∃ m, m = all.length - b0 := ⟨_, rfl⟩
  rw [← hm0]
  refine a_start (by decide) rfl (Nat.le_of_ble_eq_true rfl) ?_
  intro pp e R s m args below meth c ls Q hR hQ hCK hml hr hlk hnme hG hS hE hA hl
  have hx := hCK.1
  have hb := hCK.2.1
  have hown := hCK.2.2.1
  have hts := hCK.2.2.2.1
  have hK := hCK.2.2.2.2
  have hl : lv_has ls 3 [(0, .ref (ad 6000)), (1, .int (iI (dn : Int)))] := hl
  have hOT : OT all.length V ad C V ad C := OT.rf
  have htb := tB (x := x) hp
  have v_rd : V 6000 := hRD.2.1.1
  have k_rd : C 6000 = .inr (8, [.ref (ad 6001), .ref (ad 6002), .ref (ad 1), .int (iI n), .ref (ad 6003), .ref (ad 6005), .int (iI (kC x n p)), .int (iI (tF x n p)), .int (iI (tT x n p)), .int (iI vl), .int (iI (-1))]) := hRD.2.1.2
  have e_rd : ad 6000 = ad 6000 := (hOT 6000 (Or.inl (by decide))).1
  have v_tx : V 1 := hRD.1.1
  have k_tx : C 1 = .inl (E 1, 300, ai x) := hRD.1.2
  refine lv_aload_n hx hb dX9_each_0 rfl (lv_at hl 0 rfl) ?_
  refine lv_iload_n hx hb dX9_each_1 rfl (lv_at hl 1 rfl) ?_
  obtain ⟨a0, e_a0⟩ : ∃ a, a = ps x n (g) 10 ((dn : Nat) : Int) (p) := ⟨_, rfl⟩
  have l_a0 := ps_len x n (g) 10 ((dn : Nat) : Int) (p) hp.2
  rw [← e_a0] at l_a0
  have hM := ih_test (g) (by omega) V ad C (p) vl mo cap b0 (all) (dn) hd hRD hNA hp (by omega) hal
  rw [← e_a0, e_rd] at hM
  have h_mt : (all).length - b0 = m0 := by first | exact hm0.symm | (rw [List.length_append]; exact ll2s hb0 hm0)
  rw [h_mt] at hM
  rw [← e_a0] at eR
  have hRl0 : a0.2.2.length ≤ Rz.2.2.length := by rw [eR]; exact sq_len _ _
  have hq0 := csN_le cap m0 hRl0
  refine a_calli (a_runV (n := 1) (C0 := RX9) (b := (ad 6000)) (rest := []) (as := [.int (iI (dn : Int))]) hCK hE hA hml (hM) (by have h := g_rec (r := 6000) (ci := 8) hK hG v_rd rfl k_rd; rw [e_rd] at h; exact h) q510 q512 qs9 q86 q513 (by decide +kernel) ⟨rfl, rfl⟩ hR (amr_ok (lv2 (by decide)) (by decide)) ⟨(by rw [hR]; exact (show 0 + _ ≤ _ from by rw [Nat.zero_add]; exact hq0.1)), (by rw [hR]; exact (show 0 + _ ≤ _ from by rw [Nat.zero_add]; exact hq0.2))⟩ hG hS rfl hl.1 rfl (Nat.le_of_ble_eq_true rfl) dX9_each_2) hS (fun z1 ad2 V3 C4 H locs hp5 hG hS => ?_)
  obtain ⟨rfl, ⟨vl6, mo7, hRD, hNA⟩, hot9⟩ := hp5
  have hOT := hOT.tr hot9 (by first | exact Nat.le_refl _ | (rw [List.length_append]; exact Nat.le_add_right _ _) | (rw [List.length_append, List.length_append]; exact Nat.le_trans (Nat.le_add_right _ _) (Nat.le_add_right _ _)))
  rw [h_mt] at hRD
  have hp : 0 ≤ a0.2.1 ∧ a0.2.1 ≤ n := ⟨Int.le_trans hp.1 l_a0.1.1, l_a0.1.2⟩
  have htb := tB (x := x) hp
  have hal : (((all ++ a0.2.2).length : Nat) : Int) ≤ a0.2.1 := by rw [List.length_append]; exact hal_2 hal l_a0.2
  refine W.eq (g2 := F0 m 5 ls [.int (iI (if a0.1 = true then 1 else 0))]) rfl ?_
  refine W.widen (k := csN (a0.2.2.length) cap m0) (n := slN (a0.2.2.length) cap m0) (by omega) (by omega) ?_
  refine lv_istore_n (lv' := [(2, .int (iI (if a0.1 = true then 1 else 0))), (0, .ref (ad 6000)), (1, .int (iI (dn : Int)))]) hx hb dX9_each_5 rfl hl (by decide) rfl (fun ls hl => ?_)
  have ezz : (if a0.1 = true then (1 : Int) else 0) = 0 ∨ (if a0.1 = true then (1 : Int) else 0) = 1 := by split <;> simp
  have ehR : RD E adK x n V3 ad2 C4 (kC x n a0.2.1) (tF x n a0.2.1) (tT x n a0.2.1) vl6 (if (if a0.1 = true then (1 : Int) else 0) = 1 then -1 else tF x n a0.2.1) mo7 (cpN a0.2.2.length cap m0) b0 (all ++ a0.2.2) := by
    by_cases q : a0.1 = true
    · rw [if_pos q] at hRD; rw [if_pos q, if_pos rfl]; exact hRD
    · rw [if_neg q] at hRD; rw [if_neg q, if_neg (by decide)]; exact hRD
  have ehc1 : (if a0.1 = true then (1 : Int) else 0) = 1 → Rz = ((ps x n g 9 (dn : Int) a0.2.1).1, (ps x n g 9 (dn : Int) a0.2.1).2.1, a0.2.2 ++ (ps x n g 9 (dn : Int) a0.2.1).2.2) := by
    intro h
    by_cases q : a0.1 = true
    · rw [eR, sq_y q]
    · rw [if_neg q] at h; exact absurd h (by decide)
  have ehc0 : (if a0.1 = true then (1 : Int) else 0) = 0 → Rz = (false, a0.2.1, a0.2.2) := by
    intro h
    by_cases q : a0.1 = true
    · rw [if_pos q] at h; exact absurd h (by decide)
    · rw [eR, sq_n q]; exact bf q
  have loop6_8 : ∀ (nd : Nat) (zf : Int) (p1 : Int) (o : List (Int × Int)) (fu : Nat) (vl1 : Int) (mo1 : Int) (Vg : Nat → Prop) (adg : Nat → Nat) (Cg : Nat → va_E), (fu : Int) < (nd : Int) → (zf = 0 ∨ zf = 1) → (zf = 1 → Rz = ((ps x n fu 9 (dn : Int) p1).1, (ps x n fu 9 (dn : Int) p1).2.1, o ++ (ps x n fu 9 (dn : Int) p1).2.2)) → (zf = 0 → Rz = (false, p1, o)) → (8 * (n - p1) < (fu : Int) ∧ fu ≤ g) → (RD E adK x n Vg adg Cg (kC x n p1) (tF x n p1) (tT x n p1) vl1 (if zf = 1 then -1 else tF x n p1) mo1 (cpN o.length cap m0) b0 (all ++ o)) → (numAt x n p1 vl1) → (OT all.length V ad C Vg adg Cg) → (0 ≤ p1 ∧ p1 ≤ n) → ((((all ++ o).length : Nat) : Int) ≤ p1) → ∀ (H : Heap) (locs : List Loc) (ls : Array Slot), GW D A Vg adg Cg H → va_S A s.heap H locs → lv_has ls 3 [(2, .int (iI zf)), (0, .ref (ad 6000)), (1, .int (iI (dn : Int)))] → W pp l e R s m args below meth c H locs (csN o.length cap m0) (slN o.length cap m0) Q (F0 m 6 ls []) := by
    intro nd
    induction nd with
    | zero => intro zf p1 o fu vl1 mo1 Vg adg Cg hn10 hz hc1 hc0 hfu hRD hNA hOT hp hal; exfalso; omega
    | succ nd ih9 =>
      intro zf p1 o fu vl1 mo1 Vg adg Cg hn10 hz hc1 hc0 hfu hRD hNA hOT hp hal H locs ls hG hS hl
      clear hq0 hRl0 l_a0 ehc1 ehc0 ezz ehR
      have htb := tB (x := x) hp
      have v_rd : Vg 6000 := hRD.2.1.1
      have k_rd : Cg 6000 = .inr (8, [.ref (adg 6001), .ref (adg 6002), .ref (adg 1), .int (iI n), .ref (adg 6003), .ref (adg 6005), .int (iI (kC x n p1)), .int (iI (tF x n p1)), .int (iI (tT x n p1)), .int (iI vl1), .int (iI (if zf = 1 then -1 else tF x n p1))]) := hRD.2.1.2
      have e_rd : adg 6000 = ad 6000 := (hOT 6000 (Or.inl (by decide))).1
      have v_tx : Vg 1 := hRD.1.1
      have k_tx : Cg 1 = .inl (E 1, 300, ai x) := hRD.1.2
      refine lv_iload_n hx hb dX9_each_6 rfl (lv_at hl 0 rfl) ?_
      refine r_if_eq (tgt := 56) hx hb dX9_each_7 (by decide) (by omega) (fun cz => ?_) (fun cz => ?_)
      · have e0 := hc0 cz
        refine lv_iload_n hx hb dX9_each_56 rfl (lv_at hl 0 rfl) ?_
        exact a_zret hCK hQ hr hlk hG hS (by rw [e0]; exact Nat.le_refl _) (by rw [e0]; exact Nat.le_refl _) (by omega) dX9_each_57 (⟨by rw [e0]; show (if (false = true) then (1 : Int) else 0) = zf; rw [if_neg (by decide)]; exact cz.symm, ⟨vl1, mo1, by rw [e0]; rw [if_neg (by rw [cz]; decide)] at hRD; rw [← hm0]; exact hRD, by rw [e0]; exact hNA⟩, hOT⟩)
      · have ez : zf = 1 := hz.resolve_left cz
        have hal0 := hal
        have htb1 := htb
        subst ez
        have e1 := hc1 rfl
        have hRlo : o.length ≤ Rz.2.2.length := by rw [e1]; show _ ≤ (o ++ _).length; rw [List.length_append]; omega
        have hqo := csN_le cap m0 hRlo
        rw [if_pos rfl] at hRD
        obtain ⟨f2, rfl⟩ : ∃ f2, fu = f2 + 1 := ⟨fu - 1, by omega⟩
        rw [ps_9] at e1
        have hl : lv_has ls 3 [(2, .int (iI 1)), (0, .ref (ad 6000)), (1, .int (iI (dn : Int)))] := hl
        have v_rd : Vg 6000 := hRD.2.1.1
        have k_rd : Cg 6000 = .inr (8, [.ref (adg 6001), .ref (adg 6002), .ref (adg 1), .int (iI n), .ref (adg 6003), .ref (adg 6005), .int (iI (kC x n p1)), .int (iI (tF x n p1)), .int (iI (tT x n p1)), .int (iI vl1), .int (iI (-1))]) := hRD.2.1.2
        have e_rd : adg 6000 = ad 6000 := (hOT 6000 (Or.inl (by decide))).1
        have v_tx : Vg 1 := hRD.1.1
        have k_tx : Cg 1 = .inl (E 1, 300, ai x) := hRD.1.2
        have hkc := kC_cases x n p1
        refine lv_aload_n hx hb dX9_each_10 rfl (lv_at hl 1 rfl) ?_
        refine e_str hx hb hE (i := 12) rfl hown dX9_each_11 ?_
        have hM := met_isw l adK adV st D E A Vg adg Cg 12 (by decide) x n (kC x n p1) (tF x n p1) (tT x n p1) vl1 (-1) hn hbx v_rd k_rd v_tx k_tx (tBF hp) (kC_R _ _ _)
        rw [e_rd] at hM
        refine a_calli (a_runV (n := 1) (C0 := RX9) (b := (ad 6000)) (rest := []) (as := [.ref (adK 12)]) hCK hE hA hml (hM) (by have h := g_rec (r := 6000) (ci := 8) hK hG v_rd rfl k_rd; rw [e_rd] at h; exact h) q469 q471 qs5 q86 q472 (by decide +kernel) ⟨rfl, rfl⟩ hR (amr_ok (lv1 (by decide)) (by decide)) ⟨(by rw [hR]; exact hqo.1), (by rw [hR]; exact hqo.2)⟩ hG hS rfl hl.1 rfl (Nat.le_of_ble_eq_true rfl) dX9_each_13) hS (fun z11 ad12 V13 C14 H locs hp15 hG hS => ?_)
        obtain ⟨rfl, rfl, rfl, rfl⟩ := hp15
        have hwk := tok_w (x := x) (n := n) (p := p1) (k := 10) (by decide)
        refine W.eq (g2 := F0 m 16 ls [.int (iI (if kC x n p1 = 1 ∧ isW x (tF x n p1) (tT x n p1) 12 = true then 1 else 0))]) rfl ?_
        refine r_ifeqB (tgt := 56) hx hb dX9_each_16 (by decide) (fun cw => ?_) (fun cw => ?_)
        · have hno : ¬ (tK x n p1 = 2 ∧ tV x n p1 = 10) := (fun q => cw (hwk.mpr q))
          rw [if_neg hno] at e1
          have e1 : Rz = (true, p1, o) := by rw [e1]; show (true, p1, o ++ []) = _; rw [List.append_nil]
          refine lv_iload_n hx hb dX9_each_56 rfl (lv_at hl 0 rfl) ?_
          exact a_zret hCK hQ hr hlk hG hS (by rw [e1]; exact Nat.le_refl _) (by rw [e1]; exact Nat.le_refl _) (by decide) dX9_each_57 (⟨by rw [e1]; rfl, ⟨vl1, mo1, by rw [e1, ← hm0]; exact hRD, by rw [e1]; exact hNA⟩, hOT⟩)
        · have hyes : tK x n p1 = 2 ∧ tV x n p1 = 10 := (hwk.mp cw)
          rw [if_pos hyes] at e1
          have htk : tK x n p1 ≠ 0 := by rw [hyes.1]; decide
          have hl7 := htb1.2.2 htk
          clear hkc
          clear hyes
          refine lv_aload_n hx hb dX9_each_19 rfl (lv_at hl 1 rfl) ?_
          have hM := met_rnext l adK adV st D E A Vg adg Cg x n (kC x n p1) (tF x n p1) (tT x n p1) vl1 (-1) hn hbx v_rd k_rd v_tx k_tx (tBT hp)
          rw [e_rd] at hM
          refine a_callv (a_runV (n := 0) (C0 := RX9) (b := (ad 6000)) (rest := []) (as := []) hCK hE hA hml (hM) (by have h := g_rec (r := 6000) (ci := 8) hK hG v_rd rfl k_rd; rw [e_rd] at h; exact h) q363 q365 qs1 q86 q366 (by decide +kernel) ⟨rfl, rfl⟩ hR (amr_ok (lv1 (by decide)) (by decide)) ⟨(by rw [hR]; exact hqo.1), (by rw [hR]; exact hqo.2)⟩ hG hS rfl hl.1 rfl (Nat.le_of_ble_eq_true rfl) dX9_each_20) hS (fun ad17 V18 C19 H locs hp20 hG hS => ?_)
          obtain ⟨rfl, rfl, ⟨vl21, k9, hNA⟩, o9⟩ := hp20
          have hRD := hRD.tok k9 o9
          have hOT := hOT.set o9
          have hal : (((all ++ o).length : Nat) : Int) ≤ tT x n p1 := hal_t hp hal
          have hp : 0 ≤ tT x n p1 ∧ tT x n p1 ≤ n := tBT hp
          have htb := tB (x := x) hp
          have v_rd : Vg 6000 := hRD.2.1.1
          have k_rd : C19 6000 = .inr (8, [.ref (adg 6001), .ref (adg 6002), .ref (adg 1), .int (iI n), .ref (adg 6003), .ref (adg 6005), .int (iI (kC x n (tT x n p1))), .int (iI (tF x n (tT x n p1))), .int (iI (tT x n (tT x n p1))), .int (iI vl21), .int (iI (-1))]) := hRD.2.1.2
          have e_rd : adg 6000 = ad 6000 := (hOT 6000 (Or.inl (by decide))).1
          have v_tx : Vg 1 := hRD.1.1
          have k_tx : C19 1 = .inl (E 1, 300, ai x) := hRD.1.2
          refine lv_aload_n hx hb dX9_each_23 rfl (lv_at hl 1 rfl) ?_
          refine lv_iload_n hx hb dX9_each_24 rfl (lv_at hl 2 rfl) ?_
          obtain ⟨a1, e_a1⟩ : ∃ a, a = ps x n (f2) 10 ((dn : Nat) : Int) (tT x n p1) := ⟨_, rfl⟩
          have l_a1 := ps_len x n (f2) 10 ((dn : Nat) : Int) (tT x n p1) hp.2
          rw [← e_a1] at l_a1
          have hM := ih_test (f2) (Nat.lt_succ_of_le (Nat.le_of_succ_le hfu.2)) Vg adg C19 (tT x n p1) vl21 mo1 (cpN o.length cap m0) b0 (all ++ o) (dn) hd hRD hNA hp (fu_c hfu hl7 (by decide)) hal
          rw [← e_a1, e_rd] at hM
          have h_mt : (all ++ o).length - b0 = m0 + o.length := by first | exact hm0.symm | (rw [List.length_append]; exact ll2s hb0 hm0)
          rw [h_mt] at hM
          rw [← e_a1] at e1
          have hRl1 : o.length + a1.2.2.length ≤ Rz.2.2.length := by
            rw [e1]
            have h1 := sq_len a1 (fun p1_ => (true, p1_, [(9, (0 : Int))]))
            have h2 := sq_len (sq a1 (fun p1_ => (true, p1_, [(9, (0 : Int))]))) (fun p1_ => ps x n f2 9 (dn : Int) p1_)
            show _ ≤ (o ++ _).length
            rw [List.length_append]
            exact Nat.add_le_add_left (Nat.le_trans h1 h2) _
          have hq1 := csN_le cap m0 hRl1
          rw [csN_add, slN_add] at hq1
          refine a_calli (a_runV (n := 1) (C0 := RX9) (b := (ad 6000)) (rest := []) (as := [.int (iI (dn : Int))]) hCK hE hA hml (hM) (by have h := g_rec (r := 6000) (ci := 8) hK hG v_rd rfl k_rd; rw [e_rd] at h; exact h) q510 q512 qs9 q86 q513 (by decide +kernel) ⟨rfl, rfl⟩ hR (amr_ok (lv2 (by decide)) (by decide)) ⟨(by rw [hR]; exact hq1.1), (by rw [hR]; exact hq1.2)⟩ hG hS rfl hl.1 rfl (Nat.le_of_ble_eq_true rfl) dX9_each_25) hS (fun z22 ad23 V24 C25 H locs hp26 hG hS => ?_)
          obtain ⟨rfl, ⟨vl27, mo28, hRD, hNA⟩, hot9⟩ := hp26
          have hOT := hOT.tr hot9 (by first | exact Nat.le_refl _ | (rw [List.length_append]; exact Nat.le_add_right _ _) | (rw [List.length_append, List.length_append]; exact Nat.le_trans (Nat.le_add_right _ _) (Nat.le_add_right _ _)))
          rw [h_mt] at hRD
          have hp : 0 ≤ a1.2.1 ∧ a1.2.1 ≤ n := ⟨Int.le_trans hp.1 l_a1.1.1, l_a1.1.2⟩
          have htb := tB (x := x) hp
          have hal : (((all ++ o ++ a1.2.2).length : Nat) : Int) ≤ a1.2.1 := by rw [List.length_append]; exact hal_2 hal l_a1.2
          refine W.eq (g2 := F0 m 28 ls [.int (iI (if a1.1 = true then 1 else 0))]) rfl ?_
          refine W.widen (k := csN (o.length + a1.2.2.length) cap m0) (n := slN (o.length + a1.2.2.length) cap m0) (by rw [csN_add]; exact Nat.le_refl _) (by rw [slN_add]; exact Nat.le_refl _) ?_
          rw [← cpN_add] at hRD
          refine r_ifeqB (tgt := 51) hx hb dX9_each_28 (by decide) (fun ca => ?_) (fun ca => ?_)
          · have e1 : Rz = (false, a1.2.1, o ++ a1.2.2) := by rw [e1, sq_n (k := fun p1 => (true, p1, [(_, (0 : Int))])) ca, sq_n ca, bf ca]
            refine r_iconst hx hb dX9_each_51 ?_
            refine lv_istore_n (lv' := [(2, .int (iI 0)), (0, .ref (ad 6000)), (1, .int (iI (dn : Int)))]) hx hb dX9_each_52 rfl hl (by decide) rfl (fun ls hl => ?_)
            refine lv_goto (tgt := 6) hx hb dX9_each_53 (by decide) ?_
            refine W.cs (cells' := csN (o ++ a1.2.2).length cap m0) (slots' := slN (o ++ a1.2.2).length cap m0) (by rw [List.length_append]) (by rw [List.length_append]) ?_
            exact ih9 0 a1.2.1 (o ++ a1.2.2) f2 vl27 mo28 V24 ad23 C25 (ml_s hn10)  (Or.inl rfl) (fun h => absurd h (by decide)) (fun _ => e1) (fu_s hfu hl7 l_a1.1.1) (by rw [if_neg ca] at hRD; rw [if_neg (by decide), List.length_append, ← List.append_assoc]; exact hRD) hNA hOT hp (by rw [← List.append_assoc]; exact hal) _ _ _ hG hS (lv_sub hl [0, 1, 2] rfl)
          · rw [if_pos ca] at hRD
            have e1 : Rz = ((ps x n f2 9 (dn : Int) a1.2.1).1, (ps x n f2 9 (dn : Int) a1.2.1).2.1, (o ++ a1.2.2 ++ [(9, 0)]) ++ (ps x n f2 9 (dn : Int) a1.2.1).2.2) := by
              rw [e1, sq_y (a := a1) ca, sq_y (by rfl)]
              simp only [List.append_assoc]
            have hRl2 : o.length + a1.2.2.length + 1 ≤ Rz.2.2.length := by
              have h9 := congrArg (fun r : PR => r.2.2.length) e1
              simp only [List.length_append, List.length_cons, List.length_nil] at h9
              rw [h9]
              exact Nat.le_add_right _ _
            have hq2 := csN_le cap m0 hRl2
            have hst := csN_1 (o.length + a1.2.2.length) cap m0
            rw [hst.1, hst.2.1] at hq2
            have v_rd : V24 6000 := hRD.2.1.1
            have k_rd : C25 6000 = .inr (8, [.ref (ad23 6001), .ref (ad23 6002), .ref (ad23 1), .int (iI n), .ref (ad23 6003), .ref (ad23 6005), .int (iI (kC x n a1.2.1)), .int (iI (tF x n a1.2.1)), .int (iI (tT x n a1.2.1)), .int (iI vl27), .int (iI (-1))]) := hRD.2.1.2
            have e_rd : ad23 6000 = ad 6000 := (hOT 6000 (Or.inl (by decide))).1
            have v_tx : V24 1 := hRD.1.1
            have k_tx : C25 1 = .inl (E 1, 300, ai x) := hRD.1.2
            have hll : (all ++ o ++ a1.2.2).length = b0 + (m0 + (o.length + a1.2.2.length)) := by rw [List.length_append, List.length_append]; exact ll3 hb0 hm0
            have hgr9 := hgr_l (b0 := b0) (c := cpN (o.length + a1.2.2.length) cap m0) hal hp.2 hn.2
            have hpm9 := hpm_l (c := cpN (o.length + a1.2.2.length) cap m0) hll
            have hr1 := Nat.le_trans (Nat.le_add_right _ _) hq2.1
            have hr2 := le2 hq2.2
            have hr4 := le3 hq2.2
            have hOa : ∀ q, (q ≠ 7000 + (all ++ o ++ a1.2.2).length) → ad23 q = ad23 q := fun _ _ => rfl
            have hOc : ∀ q, (q ≠ 7000 + (all ++ o ++ a1.2.2).length) → C25 q = C25 q := fun _ _ => rfl
            have e_rd0 := e_rd
            have hnl : 6000 ≠ 7000 + (all ++ o ++ a1.2.2).length := by omega
            refine lv_aload_n hx hb dX9_each_31 rfl (lv_at hl 1 rfl) ?_
            refine a_new (ci := 7) (fs := [.int (iI 0)]) tyX8 hCK hG hS hA (7000 + (all ++ o ++ a1.2.2).length) in_X8 tyX8_ok q515 q516 q85 rfl (by decide) (by rw [hR]; exact hr1) (by rw [hR]; exact hr2) dX9_each_32 (fun x29 ad30 C31 H e_it k_it oo34 hG hS oh35 => ?_)
            obtain ⟨V36, hV36⟩ : ∃ X : Nat → Prop, X = fun q => V24 q ∨ q = 7000 + (all ++ o ++ a1.2.2).length := ⟨_, rfl⟩
            rw [← hV36] at hG
            have v_rd : V36 6000 := by rw [hV36]; exact Or.inl v_rd
            have e_rd : ad30 6000 = (ad 6000) := (oo34 6000 (by first | exact hq | exact hnl)).1.trans e_rd
            have k_rd : C31 6000 = .inr (8, [.ref (ad23 6001), .ref (ad23 6002), .ref (ad23 1), .int (iI n), .ref (ad23 6003), .ref (ad23 6005), .int (iI (kC x n a1.2.1)), .int (iI (tF x n a1.2.1)), .int (iI (tT x n a1.2.1)), .int (iI vl27), .int (iI (-1))]) := (oo34 6000 (by first | exact hq | exact hnl)).2.trans k_rd
            have v_it : V36 (7000 + (all ++ o ++ a1.2.2).length) := by rw [hV36]; exact Or.inr rfl
            have hOa : ∀ q, (q ≠ 7000 + (all ++ o ++ a1.2.2).length) → ad30 q = ad23 q := fun q hq => (oo34 q (by first | exact hq | exact hnl)).1.trans (hOa q hq)
            have hOc : ∀ q, (q ≠ 7000 + (all ++ o ++ a1.2.2).length) → C31 q = C25 q := fun q hq => (oo34 q (by first | exact hq | exact hnl)).2.trans (hOc q hq)
            refine lv_dup hx hb dX9_each_35 rfl ?_
            refine r_bipush hx hb dX9_each_36 (by decide) ?_
            refine a_callv (a_runI (n := 1) (b := x29) (rest := [.ref x29, .ref (ad 6000)]) (as := [.int (iI 38)]) hCK hE hA hml (met_xi8 l adK adV st D E A V36 ad30 C31 (7000 + (all ++ o ++ a1.2.2).length) x29 38 v_it e_it k_it) q517 q518 q85 q519 rfl (by decide +kernel) ⟨rfl, rfl⟩ hR (amr_ok (lv1 (by decide)) (by decide)) ⟨(by rw [hR]; exact hr1), (by rw [hR]; exact hr2)⟩ hG hS rfl hl.1 rfl (Nat.le_of_ble_eq_true rfl) dX9_each_38) hS (fun ad38 V39 C40 H locs hp41 hG hS => ?_)
            obtain ⟨rfl, rfl, kk43, oo42⟩ := hp41
            have k_it : C40 (7000 + (all ++ o ++ a1.2.2).length) = .inr (7, [.int (iI 38)]) := kk43
            have k_rd : C40 6000 = .inr (8, [.ref (ad23 6001), .ref (ad23 6002), .ref (ad23 1), .int (iI n), .ref (ad23 6003), .ref (ad23 6005), .int (iI (kC x n a1.2.1)), .int (iI (tF x n a1.2.1)), .int (iI (tT x n a1.2.1)), .int (iI vl27), .int (iI (-1))]) := (oo42 6000 (by first | exact hq | exact hnl)).trans k_rd
            have hOa : ∀ q, (q ≠ 7000 + (all ++ o ++ a1.2.2).length) → ad30 q = ad23 q := hOa
            have hOc : ∀ q, (q ≠ 7000 + (all ++ o ++ a1.2.2).length) → C40 q = C25 q := fun q hq => (oo42 q (by first | exact hq | exact hnl)).trans (hOc q hq)
            have hmk : C40 (7000 + (all ++ o ++ a1.2.2).length) = mkE 9 0 := k_it
            have hM := met_puts l adK adV st D E A V36 ad30 C40 V24 ad23 C25 x n (kC x n a1.2.1) (tF x n a1.2.1) (tT x n a1.2.1) vl27 (-1) mo28 (cpN (o.length + a1.2.2.length) cap m0) b0 (all ++ o ++ a1.2.2) 9 0 x29 hRD hV36 (fun q hq => ⟨hOa q hq, hOc q hq⟩) hmk e_it hgr9 (if m0 + (o.length + a1.2.2.length) = cpN (o.length + a1.2.2.length) cap m0 then 1 else 0) (if m0 + (o.length + a1.2.2.length) = cpN (o.length + a1.2.2.length) cap m0 then cpN (o.length + a1.2.2.length) cap m0 + cpN (o.length + a1.2.2.length) cap m0 / 2 else 0) hpm9
            rw [e_rd0] at hM
            refine a_calli (a_runV (n := 1) (C0 := RX9) (b := (ad 6000)) (rest := []) (as := [.ref x29]) hCK hE hA hml (hM) (by have h := g_rec (r := 6000) (ci := 8) hK hG v_rd rfl k_rd; rw [e_rd] at h; exact h) q528 q530 qs10 q86 q531 (by decide +kernel) ⟨rfl, rfl⟩ hR (amr_ok (lv1 (by decide)) (by decide)) ⟨(by rw [hR]; exact hq2.1), (by rw [hR]; exact hr4)⟩ hG hS rfl hl.1 rfl (Nat.le_of_ble_eq_true rfl) dX9_each_41) hS (fun z44 ad45 V46 C47 H locs hp48 hG hS => ?_)
            obtain ⟨rfl, mo49, cap50, hcp9, hRD, hot9⟩ := hp48
            have hOT := hOT.tr hot9 (by first | exact Nat.le_refl _ | (rw [List.length_append]; exact Nat.le_add_right _ _) | (rw [List.length_append, List.length_append]; exact Nat.le_trans (Nat.le_add_right _ _) (Nat.le_add_right _ _)))
            refine W.eq (g2 := F0 m 44 ls [.int (iI 1)]) rfl ?_
            have v_rd : V46 6000 := hRD.2.1.1
            have k_rd : C47 6000 = .inr (8, [.ref (ad45 6001), .ref (ad45 6002), .ref (ad45 1), .int (iI n), .ref (ad45 6003), .ref (ad45 6005), .int (iI (kC x n a1.2.1)), .int (iI (tF x n a1.2.1)), .int (iI (tT x n a1.2.1)), .int (iI vl27), .int (iI (-1))]) := hRD.2.1.2
            have e_rd : ad45 6000 = ad 6000 := (hOT 6000 (Or.inl (by decide))).1
            have v_tx : V46 1 := hRD.1.1
            have k_tx : C47 1 = .inl (E 1, 300, ai x) := hRD.1.2
            refine W.widen (k := csN (o.length + a1.2.2.length + 1) cap m0) (n := slN (o.length + a1.2.2.length + 1) cap m0) (by rw [hst.1]; exact Nat.le_refl _) (by rw [hst.2.1]; exact le4) ?_
            have hcp : cap50 = cpN (o.length + a1.2.2.length + 1) cap m0 := (cp_step hcp9 hll).trans hst.2.2.symm
            rw [hcp] at hRD
            clear hcp9
            refine r_if_eq (tgt := 51) hx hb dX9_each_44 (by decide) (by decide) (fun c51 => absurd c51 (by decide)) (fun c51 => ?_)
            refine r_iconst hx hb dX9_each_47 ?_
            refine lv_goto (tgt := 52) hx hb dX9_each_48 (by decide) ?_
            refine lv_istore_n (lv' := [(2, .int (iI 1)), (0, .ref (ad 6000)), (1, .int (iI (dn : Int)))]) hx hb dX9_each_52 rfl hl (by decide) rfl (fun ls hl => ?_)
            refine lv_goto (tgt := 6) hx hb dX9_each_53 (by decide) ?_
            have hl3 : (o ++ a1.2.2 ++ [((9 : Int), (0 : Int))]).length = o.length + a1.2.2.length + 1 := by simp [List.length_append, Nat.add_assoc]
            have hl4 : all ++ (o ++ a1.2.2 ++ [((9 : Int), (0 : Int))]) = all ++ o ++ a1.2.2 ++ [((9 : Int), (0 : Int))] := by simp only [List.append_assoc]
            have hl5 : (all ++ o).length = b0 + (m0 + o.length) := by rw [List.length_append]; exact ll2 hb0 hm0
            refine W.cs (cells' := csN (o ++ a1.2.2 ++ [((9 : Int), (0 : Int))]).length cap m0) (slots' := slN (o ++ a1.2.2 ++ [((9 : Int), (0 : Int))]).length cap m0) (by rw [hl3]) (by rw [hl3]) ?_
            exact ih9 1 a1.2.1 (o ++ a1.2.2 ++ [(9, 0)]) f2 vl27 mo49 V46 ad45 C47 (ml_s hn10)  (Or.inr rfl) (fun _ => e1) (fun h => absurd h (by decide)) (fu_s hfu hl7 l_a1.1.1) (by rw [if_pos rfl, hl3, hl4]; exact hRD) hNA hOT hp (by rw [hl4, List.length_append, hll]; exact hal_g hal0 hl5 l_a1.2 hl7) _ _ _ hG hS (lv_sub hl [0, 1, 2] rfl)
  exact loop6_8 (g + 1) (if a0.1 = true then 1 else 0) a0.2.1 a0.2.2 g vl6 mo7 V3 ad2 C4 (by omega)  ezz ehc1 ehc0 (by have := l_a0.1; omega) ehR hNA hOT hp hal _ _ _ hG hS (lv_sub hl [0, 1, 2] rfl)
