/-! THE COMPONENT: a tick, ticks -/
set_option maxRecDepth 100000

theorem tk_JG {I : Nat → Int} {F : Nat → Int → Int} {t fi : Int} {J J1 : Nat → Int} {G G1 : Nat → Int → Int} (h0 : J 0 = J1 0) (h1 : J 1 = J1 1) (h2 : J 2 = J1 2) (h3 : J 3 = J1 3) (h4 : J 4 = J1 4) (g0 : G 0 = G1 0) (g1 : G 1 = G1 1) (g2 : G 2 = G1 2) (g3 : G 3 = G1 3) : (∀ k, k < 7 → tkJ I F t fi J G k = tkJ I F t fi J1 G1 k) ∧ ∀ k, k < 4 → tkG I F t fi J G k = tkG I F t fi J1 G1 k := by
  have e1 : tPl I F J G = tPl I F J1 G1 := by simp only [tPl, h0, g0]
  have e2 : tPa I F t fi J G = tPa I F t fi J1 G1 := by
    funext i
    simp only [tPa, tP3, e1, h0, h1, h2, g1, g3]
  have e3 : tFo I F t fi J G = tFo I F t fi J1 G1 := by simp only [tFo, e2]
  have e4 : tSp I F t fi J G = tSp I F t fi J1 G1 := by simp only [tSp, e3, h1]
  have e5 : tSl I F t fi J G = tSl I F t fi J1 G1 := by simp only [tSl, e4, h0]
  have e6 : tSi I F t fi J G = tSi I F t fi J1 G1 := by simp only [tSi, e4, h2]
  have e7 : tWo I F t fi J G = tWo I F t fi J1 G1 := by simp only [tWo, e4, e5, e6, e1, h3, g1]
  refine ⟨?_, ?_⟩
  · intro k hk
    have hc : k = 0 ∨ k = 1 ∨ k = 2 ∨ k = 3 ∨ k = 4 ∨ k = 5 ∨ k = 6 := by omega
    rcases hc with rfl | rfl | rfl | rfl | rfl | rfl | rfl <;> simp [tkJ, tkJ2, e3, e4, e5, e6, e7, h0, h1, h2, h3, h4]
  · intro k hk
    have hc : k = 0 ∨ k = 1 ∨ k = 2 ∨ k = 3 := by omega
    rcases hc with rfl | rfl | rfl | rfl <;> simp [tkG, tkG2, e1, e2, e5, h0, h4, g0, g1, g2, g3]
theorem shpS_shpS (S : Nat → Nat → Int) (o : Nat) (J J1 : Nat → Int) (t t1 g g1 : Int) : shpS (shpS S o J t g) o J1 t1 g1 = shpS S o J1 t1 g1 := by
  refine shpS_ext ?_ ?_ ?_ ?_ ?_ ?_ ?_ ?_ ?_ ?_ ?_
  all_goals try (simp [shpS]; done)
  · intro k hk
    simp [shpS, show k ≠ 4 by omega, show k ≠ 5 by omega, show k ≠ 6 by omega, show k ≠ 7 by omega, show k ≠ 8 by omega, show k ≠ 9 by omega, show k ≠ 10 by omega, show k ≠ 11 by omega, show k ≠ 12 by omega]
  · intro r hr
    funext k
    simp [shpS, hr]
theorem shpY_shpY (Y : Nat → Int → Int) (pl pa wd wt : Nat) (G G1 : Nat → Int → Int) (a b a1 b1 : Int → Int) : shpY (shpY Y pl pa wd wt G a b) pl pa wd wt G1 a1 b1 = shpY Y pl pa wd wt G1 a1 b1 := by
  funext r
  unfold shpY
  repeat' split
  all_goals rfl
theorem shpY_self (Y : Nat → Int → Int) (pl pa wd wt : Nat) : shpY Y pl pa wd wt (shG Y pl pa wd wt) (Y 3) (Y 2) = Y := shpY_ext rfl rfl rfl rfl rfl rfl (fun _ _ _ _ _ _ _ => rfl)
theorem shpS_self (S : Nat → Nat → Int) (o : Nat) : shpS S o (shJ S o) (S o 7) (S o 10) = S := shpS_ext rfl rfl rfl rfl rfl rfl rfl rfl rfl (fun _ _ => rfl) (fun _ _ => rfl)
theorem va_up_s {α : Type} (f : Nat → α) (k : Nat) (v : α) : va_up f k v k = v := by simp [va_up]
def grS (I : Nat → Int) (F : Nat → Int → Int) (t fi : Int) (J : Nat → Int) (G : Nat → Int → Int) (gr : Int) : Int := if tkJ I F t fi J G 6 ≠ 0 ∧ gr < absI (tkJ I F t fi J G 0) then absI (tkJ I F t fi J G 0) else gr
theorem trN_JG {I : Nat → Int} {F : Nat → Int → Int} {fi : Int} : ∀ (n : Nat) (t : Int) (J J1 : Nat → Int) (G G1 : Nat → Int → Int) (gr : Int), (∀ k, k < 5 → J k = J1 k) → (∀ k, k < 4 → G k = G1 k) → (trN I F fi n t J G gr).2 = (trN I F fi n t J1 G1 gr).2 ∧ ∀ k, k < 5 → (trN I F fi n t J G gr).1 k = (trN I F fi n t J1 G1 gr).1 k
  | 0, _, _, _, _, _, _, h, _ => ⟨rfl, h⟩
  | n + 1, t, J, J1, G, G1, gr, h, hg => by
    obtain ⟨e1, e2⟩ := tk_JG (I := I) (F := F) (t := t) (fi := fi) (h 0 (by decide)) (h 1 (by decide)) (h 2 (by decide)) (h 3 (by decide)) (h 4 (by decide)) (hg 0 (by decide)) (hg 1 (by decide)) (hg 2 (by decide)) (hg 3 (by decide))
    have ih := trN_JG (I := I) (F := F) (fi := fi) n (t + 1) (tkJ I F t fi J G) (tkJ I F t fi J1 G1) (tkG I F t fi J G) (tkG I F t fi J1 G1) (grS I F t fi J1 G1 gr) (fun k hk => e1 k (by omega)) e2
    have eg : (if tkJ I F t fi J G 6 ≠ 0 ∧ gr < absI (tkJ I F t fi J G 0) then absI (tkJ I F t fi J G 0) else gr) = grS I F t fi J1 G1 gr := by
      unfold grS
      rw [e1 6 (by decide), e1 0 (by decide)]
    by_cases c : t < 600
    · have a1 : trN I F fi (n + 1) t J G gr = trN I F fi n (t + 1) (tkJ I F t fi J G) (tkG I F t fi J G) (grS I F t fi J1 G1 gr) := by
        rw [← eg]
        exact if_pos c
      have a2 : trN I F fi (n + 1) t J1 G1 gr = trN I F fi n (t + 1) (tkJ I F t fi J1 G1) (tkG I F t fi J1 G1) (grS I F t fi J1 G1 gr) := if_pos c
      rw [a1, a2]
      exact ih
    · have a1 : trN I F fi (n + 1) t J G gr = (J, gr) := if_neg c
      have a2 : trN I F fi (n + 1) t J1 G1 gr = (J1, gr) := if_neg c
      rw [a1, a2]
      exact ⟨rfl, h⟩
theorem gK_eq {I : Nat → Int} {K : Nat → Int → Int} {t : Int} {J J' J1 J1' : Nat → Int} (h : J 4 = J' 4) (h0 : J1 0 = J1' 0) (h1 : J1 1 = J1' 1) (h5 : J1 5 = J1' 5) (h6 : J1 6 = J1' 6) : gK I K t J J1 = gK I K t J' J1' := by
  funext k
  simp only [gK, h, h0, h1, h5, h6]
theorem goN_JG {I : Nat → Int} {F : Nat → Int → Int} : ∀ (n : Nat) (t : Int) (J J1 : Nat → Int) (G G1 K : Nat → Int → Int), (∀ k, k < 5 → J k = J1 k) → (∀ k, k < 4 → G k = G1 k) → (goN I F n t J G K).1 = (goN I F n t J1 G1 K).1 ∧ (∀ k, k < 5 → (goN I F n t J G K).2.1 k = (goN I F n t J1 G1 K).2.1 k) ∧ (∀ k, k < 4 → (goN I F n t J G K).2.2.1 k = (goN I F n t J1 G1 K).2.2.1 k) ∧ (goN I F n t J G K).2.2.2 = (goN I F n t J1 G1 K).2.2.2
  | 0, _, _, _, _, _, _, h, hg => ⟨rfl, h, hg, rfl⟩
  | n + 1, t, J, J1, G, G1, K, h, hg => by
    obtain ⟨e1, e2⟩ := tk_JG (I := I) (F := F) (t := t) (fi := I 25) (h 0 (by decide)) (h 1 (by decide)) (h 2 (by decide)) (h 3 (by decide)) (h 4 (by decide)) (hg 0 (by decide)) (hg 1 (by decide)) (hg 2 (by decide)) (hg 3 (by decide))
    have ek : gK I K t J (tkJ I F t (I 25) J G) = gK I K t J1 (tkJ I F t (I 25) J1 G1) := gK_eq (h 4 (by decide)) (e1 0 (by decide)) (e1 1 (by decide)) (e1 5 (by decide)) (e1 6 (by decide))
    by_cases c : t < 600
    · have a1 : goN I F (n + 1) t J G K = goN I F n (t + 1) (tkJ I F t (I 25) J G) (tkG I F t (I 25) J G) (gK I K t J1 (tkJ I F t (I 25) J1 G1)) := by
        rw [← ek]
        exact if_pos c
      have a2 : goN I F (n + 1) t J1 G1 K = goN I F n (t + 1) (tkJ I F t (I 25) J1 G1) (tkG I F t (I 25) J1 G1) (gK I K t J1 (tkJ I F t (I 25) J1 G1)) := if_pos c
      rw [a1, a2]
      exact goN_JG n (t + 1) _ _ _ _ _ (fun k hk => e1 k (by omega)) e2
    · have a1 : goN I F (n + 1) t J G K = (t, J, G, K) := if_neg c
      have a2 : goN I F (n + 1) t J1 G1 K = (t, J1, G1, K) := if_neg c
      rw [a1, a2]
      exact ⟨rfl, h, hg, rfl⟩
def keptOK (Y : Nat → Int → Int) (K : Nat → Int → Int) : Prop := ∀ u : Int, 0 ≤ u → u < 600 → Y (1000 + u.toNat) 0 = K 36 u ∧ Y (1000 + u.toNat) 1 = K 37 u ∧ Y (1000 + u.toNat) 2 = K 38 u ∧ Y (1000 + u.toNat) 3 = K 40 u ∧ Y (1000 + u.toNat) 4 = K 39 u
theorem shpY_far (Y : Nat → Int → Int) {r : Nat} (G : Nat → Int → Int) (a b : Int → Int) (h : 100 ≤ r) : shpY Y 21 22 23 24 G a b r = Y r := by
  unfold shpY
  rw [if_neg (by omega), if_neg (by omega), if_neg (by omega), if_neg (by omega), if_neg (by omega), if_neg (by omega)]
theorem grS_bd {I : Nat → Int} {F : Nat → Int → Int} {t fi : Int} {J : Nat → Int} {G : Nat → Int → Int} {gr n : Int} (h : gShip n (tkJ I F t fi J G) (tkG I F t fi J G)) (hg : 0 ≤ gr ∧ gr ≤ 80) : 0 ≤ grS I F t fi J G gr ∧ grS I F t fi J G gr ≤ 80 := by
  have b := absI_bd h.1
  unfold grS
  split <;> omega
theorem keptOK_step {Y Y1 : Nat → Int → Int} {I : Nat → Int} {K : Nat → Int → Int} {t : Int} {J J1 : Nat → Int} (h : keptOK Y K) (ht : 0 ≤ t) (e0 : Y1 (1000 + t.toNat) 0 = if J 4 ≠ 0 then 0 else J1 0) (e1 : Y1 (1000 + t.toNat) 1 = if J 4 ≠ 0 then 0 else J1 1) (e2 : Y1 (1000 + t.toNat) 2 = J1 5) (e3 : Y1 (1000 + t.toNat) 3 = J1 6) (e4 : Y1 (1000 + t.toNat) 4 = I 24) (ho : ∀ r, 1000 ≤ r → r < 1600 → r ≠ 1000 + t.toNat → Y1 r = Y r) : keptOK Y1 (gK I K t J J1) := by
  intro u h0 h1
  obtain ⟨k0, k1, k2, k3, k4⟩ := h u h0 h1
  by_cases c : u = t
  · subst c
    refine ⟨?_, ?_, ?_, ?_, ?_⟩
    · rw [e0]; exact (updZ_s).symm
    · rw [e1]; exact (updZ_s).symm
    · rw [e2]; exact (updZ_s).symm
    · rw [e3]; exact (updZ_s).symm
    · rw [e4]; exact (updZ_s).symm
  · rw [ho (1000 + u.toNat) (by omega) (by omega) (by omega)]
    refine ⟨?_, ?_, ?_, ?_, ?_⟩
    · rw [k0]; exact (updZ_n c).symm
    · rw [k1]; exact (updZ_n c).symm
    · rw [k2]; exact (updZ_n c).symm
    · rw [k3]; exact (updZ_n c).symm
    · rw [k4]; exact (updZ_n c).symm
theorem tkJ_over {I : Nat → Int} {F : Nat → Int → Int} {t fi : Int} {J : Nat → Int} {G : Nat → Int → Int} (h : J 4 ≠ 0) : tkJ I F t fi J G 5 = 0 := by
  unfold tkJ
  rw [if_pos h]
  rfl
theorem dX1_goesOn_0 : decode cX1_goesOn 0 = .ok (.aload_n 0, 1) := by decide +kernel
theorem dX1_goesOn_1 : decode cX1_goesOn 1 = .ok (.iconst 0, 1) := by decide +kernel
theorem dX1_goesOn_2 : decode cX1_goesOn 2 = .ok (.putfield 139, 3) := by decide +kernel
theorem dX1_goesOn_5 : decode cX1_goesOn 5 = .ok (.aload_n 0, 1) := by decide +kernel
theorem dX1_goesOn_6 : decode cX1_goesOn 6 = .ok (.iconst 0, 1) := by decide +kernel
theorem dX1_goesOn_7 : decode cX1_goesOn 7 = .ok (.putfield 152, 3) := by decide +kernel
theorem dX1_goesOn_10 : decode cX1_goesOn 10 = .ok (.aload_n 0, 1) := by decide +kernel
theorem dX1_goesOn_11 : decode cX1_goesOn 11 = .ok (.getfield 51, 3) := by decide +kernel
theorem dX1_goesOn_14 : decode cX1_goesOn 14 = .ok (.ifCond .ne 7, 3) := by decide +kernel
theorem dX1_goesOn_17 : decode cX1_goesOn 17 = .ok (.aload_n 0, 1) := by decide +kernel
theorem dX1_goesOn_18 : decode cX1_goesOn 18 = .ok (.invokevirtual 155, 3) := by decide +kernel
theorem dX1_goesOn_21 : decode cX1_goesOn 21 = .ok (.aload_n 0, 1) := by decide +kernel
theorem dX1_goesOn_22 : decode cX1_goesOn 22 = .ok (.dup, 1) := by decide +kernel
theorem dX1_goesOn_23 : decode cX1_goesOn 23 = .ok (.getfield 42, 3) := by decide +kernel
theorem dX1_goesOn_26 : decode cX1_goesOn 26 = .ok (.iconst 1, 1) := by decide +kernel
theorem dX1_goesOn_27 : decode cX1_goesOn 27 = .ok (.iadd, 1) := by decide +kernel
theorem dX1_goesOn_28 : decode cX1_goesOn 28 = .ok (.putfield 42, 3) := by decide +kernel
theorem dX1_goesOn_31 : decode cX1_goesOn 31 = .ok (.return_, 1) := by decide +kernel
set_option maxHeartbeats 4000000 in
theorem cgoesOn_19 (l : Launch) (adK adV st : Nat → Nat) (D : va_G) (E : Nat → ClassId) (A : Nat → Prop) (ad nv : Nat → Nat) (I : Nat → Int) (F : Nat → Int → Int) (S : Nat → Nat → Int) (Y : Nat → Int → Int) (L : Nat → Nat) (J : Nat → Int) (G : Nat → Int → Int) (hn : cOK nv I L) (gh0 : gHull I F) (gl0 : gLoad I F) (gm0 : gMark I F) (gs0 : gSea I F) (gt0 : gSet I) (gr0 : gRule F) (hru : S 0 2 = 0 → F 64 0 = -1 ∧ F 64 1 = -1) (j0 : J 0 = S 19 4) (j1 : J 1 = S 19 5) (j2 : J 2 = S 19 8) (j3 : J 3 = S 19 9) (j4 : J 4 = S 19 11) (g0 : G 0 = Y 21) (g1 : G 1 = Y 24) (g2 : G 2 = Y 23) (g3 : G 3 = Y 22) (gsh0 : gShip 3000 J G) (ht : 0 ≤ S 19 7 ∧ S 19 7 ≤ 1000) (bgr : 0 ≤ S 19 10 ∧ S 19 10 ≤ 80) : CM l yX1_goesOn cX1_goesOn 1 none (mrm 8) adK adV st D E A ad nv [.ref (ad 19)] I F S Y L (CQv D E A ad nv L (fun I1 F1 S1 Y1 => I = I1 ∧ F = F1 ∧ shpS S 19 (tkJ I F (S 19 7) (I 25) J G) (S 19 7 + 1) (grS I F (S 19 7) (I 25) J G (S 19 10)) = S1 ∧ ∃ g g1, shpY Y 21 22 23 24 (tkG I F (S 19 7) (I 25) J G) g g1 = Y1)) := by
  refine c_start (by decide) rfl (Nat.le_of_ble_eq_true rfl) ?_
  intro p e R s m args below meth c ls Q hR hQ hCK hml hr hlk hG hS hE hl
  have hx := hCK.1
  have hb := hCK.2.1
  have hown := hCK.2.2.1
  have hts := hCK.2.2.2.1
  have hK := hCK.2.2.2.2
  have hl : lv_has ls 1 [(0, .ref (ad 19))] := hl
  have gsh : gShip 3000 (shJ S 19) (shG Y 21 22 23 24) := by
    obtain ⟨b0, b1, b2, b3, b4, b5, b6⟩ := gsh0
    rw [j0] at b0
    rw [j1] at b1
    rw [j2] at b2
    rw [j3] at b3
    rw [j4] at b4
    rw [g0] at b5
    rw [g1] at b6
    exact ⟨b0, b1, b2, b3, b4, b5, b6⟩
  have b4 : 0 ≤ S 19 11 ∧ S 19 11 ≤ 1 := gsh.2.2.2.2.1
  refine lv_aload_n hx hb dX1_goesOn_0 rfl (lv_at hl 0 rfl) ?_
  refine r_iconst hx hb dX1_goesOn_1 ?_
  refine cp_X1_139 (r := 19) hCK hG hS (Or.inl rfl) dX1_goesOn_2 (fun H locs hG hS => ?_)
  refine lv_aload_n hx hb dX1_goesOn_5 rfl (lv_at hl 0 rfl) ?_
  refine r_iconst hx hb dX1_goesOn_6 ?_
  refine cp_X1_152 (r := 19) hCK hG hS (Or.inl rfl) (by decide) dX1_goesOn_7 (fun H locs hG hS => ?_)
  refine lv_aload_n hx hb dX1_goesOn_10 rfl (lv_at hl 0 rfl) ?_
  refine cg_X1_51 (v := S 19 11) hCK hG (r := 19) (Or.inl rfl) rfl dX1_goesOn_11 ?_
  refine r_if_ne (tgt := 21) hx hb dX1_goesOn_14 (by decide) (by omega) (fun c1 => ?_) (fun c1 => ?_)
  · have c1 : J 4 ≠ 0 := by rw [j4]; exact c1
    have eJ : tkJ I F (S 19 7) (I 25) J G = fun k => if k = 5 ∨ k = 6 then 0 else J k := by funext k; unfold tkJ; rw [if_pos c1]
    have eG : tkG I F (S 19 7) (I 25) J G = G := by funext k; unfold tkG; rw [if_pos c1]
    have eg : grS I F (S 19 7) (I 25) J G (S 19 10) = S 19 10 := if_neg (fun q => q.1 (by rw [eJ]; rfl))
    refine lv_aload_n hx hb dX1_goesOn_21 rfl (lv_at hl 0 rfl) ?_
    refine lv_dup hx hb dX1_goesOn_22 rfl ?_
    refine cg_X1_42 (v := S 19 7) hCK hG (r := 19) (Or.inl rfl) rfl dX1_goesOn_23 ?_
    refine r_iconst hx hb dX1_goesOn_26 ?_
    refine r_iadd hx hb dX1_goesOn_27 ?_
    refine cp_X1_42 (r := 19) hCK hG hS (Or.inl rfl) dX1_goesOn_28 (fun H locs hG hS => ?_)
    exact c_vret hCK hQ hr hlk hG hS dX1_goesOn_31 (⟨rfl, rfl, shpS_ext (by rw [eJ]; exact j0) (by rw [eJ]; exact j1) (by rw [eJ]; exact j2) (by rw [eJ]; exact j3) (by rw [eJ]; exact j4) (by rw [eJ]; rfl) (by rw [eJ]; rfl) rfl eg (fun k hk => by simp [up2, va_up, show k ≠ 6 by omega, show k ≠ 12 by omega, show k ≠ 7 by omega]) (fun r hr => by repeat rw [up2_ne hr]), ⟨Y 3, Y 2, shpY_ext (by rw [eG]; exact g0) (by rw [eG]; exact g1) (by rw [eG]; exact g2) (by rw [eG]; exact g3) rfl rfl (fun r _ _ _ _ _ _ => rfl)⟩⟩)
  · have z11 : S 19 11 = 0 := c1
    obtain ⟨tJ, tG⟩ := tk_JG (I := I) (F := F) (t := S 19 7) (fi := I 25) (J := J) (J1 := shJ (up2 (up2 S 19 6 0) 19 12 0) 19) (G := G) (G1 := shG Y 21 22 23 24) j0 j1 j2 j3 j4 g0 g1 g2 g3
    refine lv_aload_n hx hb dX1_goesOn_17 rfl (lv_at hl 0 rfl) ?_
    refine c_callv (c_run (n := 0) (C0 := RX1) (b := ad 19) (rest := []) (as := []) hCK hE hml (csways_19 l adK adV st D E A ad nv I F (up2 (up2 S 19 6 0) 19 12 0) Y L hn gh0 gl0 gm0 gs0 gt0 gr0 hru ⟨gsh.1, gsh.2.1, gsh.2.2.1, gsh.2.2.2.1, gsh.2.2.2.2.1, gsh.2.2.2.2.2.1, gsh.2.2.2.2.2.2⟩ ht bgr rfl z11 rfl) (g_rec (r := 19) (ci := 1) hK hG (Or.inl (by omega)) rfl (cC_s (Or.inl rfl))) q851 q853 qs24 q72 q854 (by decide +kernel) ⟨rfl, rfl⟩ hR (by decide) ⟨Nat.zero_le _, Nat.zero_le _⟩ hG hS rfl hl.1 rfl (Nat.le_of_ble_eq_true rfl) dX1_goesOn_18) hS (fun I2 F3 S4 Y5 H locs hp6 hG hS => ?_)
    obtain ⟨rfl, rfl, hS9, g9, g8, hY9⟩ := hp6
    have hS9 : shpS (up2 (up2 S 19 6 0) 19 12 0) 19 (tkJ I F (S 19 7) (I 25) (shJ (up2 (up2 S 19 6 0) 19 12 0) 19) (shG Y 21 22 23 24)) (S 19 7) (grS I F (S 19 7) (I 25) (shJ (up2 (up2 S 19 6 0) 19 12 0) 19) (shG Y 21 22 23 24) (S 19 10)) = _ := hS9
    have hY9 : shpY Y 21 22 23 24 (tkG I F (S 19 7) (I 25) (shJ (up2 (up2 S 19 6 0) 19 12 0) 19) (shG Y 21 22 23 24)) g9 g8 = _ := hY9
    have eSX : shpS S 19 (tkJ I F (S 19 7) (I 25) J G) (S 19 7) (grS I F (S 19 7) (I 25) J G (S 19 10)) = shpS (up2 (up2 S 19 6 0) 19 12 0) 19 (tkJ I F (S 19 7) (I 25) (shJ (up2 (up2 S 19 6 0) 19 12 0) 19) (shG Y 21 22 23 24)) (S 19 7) (grS I F (S 19 7) (I 25) (shJ (up2 (up2 S 19 6 0) 19 12 0) 19) (shG Y 21 22 23 24) (S 19 10)) := shpS_ext (tJ 0 (by decide)) (tJ 1 (by decide)) (tJ 2 (by decide)) (tJ 3 (by decide)) (tJ 4 (by decide)) (tJ 5 (by decide)) (tJ 6 (by decide)) rfl (by show grS I F (S 19 7) (I 25) J G _ = grS I F (S 19 7) (I 25) (shJ (up2 (up2 S 19 6 0) 19 12 0) 19) (shG Y 21 22 23 24) _; unfold grS; rw [tJ 6 (by decide), tJ 0 (by decide)]) (fun k hk => by simp [shpS, up2, va_up, show k ≠ 4 by omega, show k ≠ 5 by omega, show k ≠ 6 by omega, show k ≠ 7 by omega, show k ≠ 8 by omega, show k ≠ 9 by omega, show k ≠ 10 by omega, show k ≠ 11 by omega, show k ≠ 12 by omega]) (fun r hr => by funext k; simp [shpS, hr, up2, va_up])
    have eYX : shpY Y 21 22 23 24 (tkG I F (S 19 7) (I 25) J G) g9 g8 = shpY Y 21 22 23 24 (tkG I F (S 19 7) (I 25) (shJ (up2 (up2 S 19 6 0) 19 12 0) 19) (shG Y 21 22 23 24)) g9 g8 := shpY_ext (tG 0 (by decide)) (tG 1 (by decide)) (tG 2 (by decide)) (tG 3 (by decide)) rfl rfl (fun r n0 n1 n2 n3 n4 n5 => by simp [shpY, n0, n1, n2, n3, n4, n5])
    rw [← eSX] at hS9
    rw [← eYX] at hY9
    subst hS9
    subst hY9
    have hG : CW D E A ad nv I F (shpS S 19 (tkJ I F (S 19 7) (I 25) J G) (S 19 7) (grS I F (S 19 7) (I 25) J G (S 19 10))) (shpY Y 21 22 23 24 (tkG I F (S 19 7) (I 25) J G) g9 g8) L H := hG
    refine lv_aload_n hx hb dX1_goesOn_21 rfl (lv_at hl 0 rfl) ?_
    refine lv_dup hx hb dX1_goesOn_22 rfl ?_
    refine cg_X1_42 (v := S 19 7) hCK hG (r := 19) (Or.inl rfl) rfl dX1_goesOn_23 ?_
    refine r_iconst hx hb dX1_goesOn_26 ?_
    refine r_iadd hx hb dX1_goesOn_27 ?_
    refine cp_X1_42 (r := 19) hCK hG hS (Or.inl rfl) dX1_goesOn_28 (fun H locs hG hS => ?_)
    exact c_vret hCK hQ hr hlk hG hS dX1_goesOn_31 (⟨rfl, rfl, shpS_ext rfl rfl rfl rfl rfl rfl rfl rfl rfl (fun k hk => by simp [shpS, up2, va_up, show k ≠ 4 by omega, show k ≠ 5 by omega, show k ≠ 6 by omega, show k ≠ 7 by omega, show k ≠ 8 by omega, show k ≠ 9 by omega, show k ≠ 10 by omega, show k ≠ 11 by omega, show k ≠ 12 by omega]) (fun r hr => by funext k; simp [shpS, hr, up2, va_up]), ⟨_, _, rfl⟩⟩)
set_option maxHeartbeats 4000000 in
theorem cgoesOn_20 (l : Launch) (adK adV st : Nat → Nat) (D : va_G) (E : Nat → ClassId) (A : Nat → Prop) (ad nv : Nat → Nat) (I : Nat → Int) (F : Nat → Int → Int) (S : Nat → Nat → Int) (Y : Nat → Int → Int) (L : Nat → Nat) (J : Nat → Int) (G : Nat → Int → Int) (hn : cOK nv I L) (gh0 : gHull I F) (gl0 : gLoad I F) (gm0 : gMark I F) (gs0 : gSea I F) (gt0 : gSet I) (gr0 : gRule F) (hru : S 0 2 = 0 → F 64 0 = -1 ∧ F 64 1 = -1) (j0 : J 0 = S 20 4) (j1 : J 1 = S 20 5) (j2 : J 2 = S 20 8) (j3 : J 3 = S 20 9) (j4 : J 4 = S 20 11) (g0 : G 0 = Y 25) (g1 : G 1 = Y 28) (g2 : G 2 = Y 27) (g3 : G 3 = Y 26) (gsh0 : gShip 3000 J G) (ht : 0 ≤ S 20 7 ∧ S 20 7 ≤ 1000) (bgr : 0 ≤ S 20 10 ∧ S 20 10 ≤ 80) : CM l yX1_goesOn cX1_goesOn 1 none (mrm 8) adK adV st D E A ad nv [.ref (ad 20)] I F S Y L (CQv D E A ad nv L (fun I1 F1 S1 Y1 => I = I1 ∧ F = F1 ∧ shpS S 20 (tkJ I F (S 20 7) (I 25) J G) (S 20 7 + 1) (grS I F (S 20 7) (I 25) J G (S 20 10)) = S1 ∧ ∃ g g1, shpY Y 25 26 27 28 (tkG I F (S 20 7) (I 25) J G) g g1 = Y1)) := by
  refine c_start (by decide) rfl (Nat.le_of_ble_eq_true rfl) ?_
  intro p e R s m args below meth c ls Q hR hQ hCK hml hr hlk hG hS hE hl
  have hx := hCK.1
  have hb := hCK.2.1
  have hown := hCK.2.2.1
  have hts := hCK.2.2.2.1
  have hK := hCK.2.2.2.2
  have hl : lv_has ls 1 [(0, .ref (ad 20))] := hl
  have gsh : gShip 3000 (shJ S 20) (shG Y 25 26 27 28) := by
    obtain ⟨b0, b1, b2, b3, b4, b5, b6⟩ := gsh0
    rw [j0] at b0
    rw [j1] at b1
    rw [j2] at b2
    rw [j3] at b3
    rw [j4] at b4
    rw [g0] at b5
    rw [g1] at b6
    exact ⟨b0, b1, b2, b3, b4, b5, b6⟩
  have b4 : 0 ≤ S 20 11 ∧ S 20 11 ≤ 1 := gsh.2.2.2.2.1
  refine lv_aload_n hx hb dX1_goesOn_0 rfl (lv_at hl 0 rfl) ?_
  refine r_iconst hx hb dX1_goesOn_1 ?_
  refine cp_X1_139 (r := 20) hCK hG hS (Or.inr rfl) dX1_goesOn_2 (fun H locs hG hS => ?_)
  refine lv_aload_n hx hb dX1_goesOn_5 rfl (lv_at hl 0 rfl) ?_
  refine r_iconst hx hb dX1_goesOn_6 ?_
  refine cp_X1_152 (r := 20) hCK hG hS (Or.inr rfl) (by decide) dX1_goesOn_7 (fun H locs hG hS => ?_)
  refine lv_aload_n hx hb dX1_goesOn_10 rfl (lv_at hl 0 rfl) ?_
  refine cg_X1_51 (v := S 20 11) hCK hG (r := 20) (Or.inr rfl) rfl dX1_goesOn_11 ?_
  refine r_if_ne (tgt := 21) hx hb dX1_goesOn_14 (by decide) (by omega) (fun c1 => ?_) (fun c1 => ?_)
  · have c1 : J 4 ≠ 0 := by rw [j4]; exact c1
    have eJ : tkJ I F (S 20 7) (I 25) J G = fun k => if k = 5 ∨ k = 6 then 0 else J k := by funext k; unfold tkJ; rw [if_pos c1]
    have eG : tkG I F (S 20 7) (I 25) J G = G := by funext k; unfold tkG; rw [if_pos c1]
    have eg : grS I F (S 20 7) (I 25) J G (S 20 10) = S 20 10 := if_neg (fun q => q.1 (by rw [eJ]; rfl))
    refine lv_aload_n hx hb dX1_goesOn_21 rfl (lv_at hl 0 rfl) ?_
    refine lv_dup hx hb dX1_goesOn_22 rfl ?_
    refine cg_X1_42 (v := S 20 7) hCK hG (r := 20) (Or.inr rfl) rfl dX1_goesOn_23 ?_
    refine r_iconst hx hb dX1_goesOn_26 ?_
    refine r_iadd hx hb dX1_goesOn_27 ?_
    refine cp_X1_42 (r := 20) hCK hG hS (Or.inr rfl) dX1_goesOn_28 (fun H locs hG hS => ?_)
    exact c_vret hCK hQ hr hlk hG hS dX1_goesOn_31 (⟨rfl, rfl, shpS_ext (by rw [eJ]; exact j0) (by rw [eJ]; exact j1) (by rw [eJ]; exact j2) (by rw [eJ]; exact j3) (by rw [eJ]; exact j4) (by rw [eJ]; rfl) (by rw [eJ]; rfl) rfl eg (fun k hk => by simp [up2, va_up, show k ≠ 6 by omega, show k ≠ 12 by omega, show k ≠ 7 by omega]) (fun r hr => by repeat rw [up2_ne hr]), ⟨Y 3, Y 2, shpY_ext (by rw [eG]; exact g0) (by rw [eG]; exact g1) (by rw [eG]; exact g2) (by rw [eG]; exact g3) rfl rfl (fun r _ _ _ _ _ _ => rfl)⟩⟩)
  · have z11 : S 20 11 = 0 := c1
    obtain ⟨tJ, tG⟩ := tk_JG (I := I) (F := F) (t := S 20 7) (fi := I 25) (J := J) (J1 := shJ (up2 (up2 S 20 6 0) 20 12 0) 20) (G := G) (G1 := shG Y 25 26 27 28) j0 j1 j2 j3 j4 g0 g1 g2 g3
    refine lv_aload_n hx hb dX1_goesOn_17 rfl (lv_at hl 0 rfl) ?_
    refine c_callv (c_run (n := 0) (C0 := RX1) (b := ad 20) (rest := []) (as := []) hCK hE hml (csways_20 l adK adV st D E A ad nv I F (up2 (up2 S 20 6 0) 20 12 0) Y L hn gh0 gl0 gm0 gs0 gt0 gr0 hru ⟨gsh.1, gsh.2.1, gsh.2.2.1, gsh.2.2.2.1, gsh.2.2.2.2.1, gsh.2.2.2.2.2.1, gsh.2.2.2.2.2.2⟩ ht bgr rfl z11 rfl) (g_rec (r := 20) (ci := 1) hK hG (Or.inl (by omega)) rfl (cC_s (Or.inr rfl))) q851 q853 qs24 q72 q854 (by decide +kernel) ⟨rfl, rfl⟩ hR (by decide) ⟨Nat.zero_le _, Nat.zero_le _⟩ hG hS rfl hl.1 rfl (Nat.le_of_ble_eq_true rfl) dX1_goesOn_18) hS (fun I2 F3 S4 Y5 H locs hp6 hG hS => ?_)
    obtain ⟨rfl, rfl, hS9, g9, g8, hY9⟩ := hp6
    have hS9 : shpS (up2 (up2 S 20 6 0) 20 12 0) 20 (tkJ I F (S 20 7) (I 25) (shJ (up2 (up2 S 20 6 0) 20 12 0) 20) (shG Y 25 26 27 28)) (S 20 7) (grS I F (S 20 7) (I 25) (shJ (up2 (up2 S 20 6 0) 20 12 0) 20) (shG Y 25 26 27 28) (S 20 10)) = _ := hS9
    have hY9 : shpY Y 25 26 27 28 (tkG I F (S 20 7) (I 25) (shJ (up2 (up2 S 20 6 0) 20 12 0) 20) (shG Y 25 26 27 28)) g9 g8 = _ := hY9
    have eSX : shpS S 20 (tkJ I F (S 20 7) (I 25) J G) (S 20 7) (grS I F (S 20 7) (I 25) J G (S 20 10)) = shpS (up2 (up2 S 20 6 0) 20 12 0) 20 (tkJ I F (S 20 7) (I 25) (shJ (up2 (up2 S 20 6 0) 20 12 0) 20) (shG Y 25 26 27 28)) (S 20 7) (grS I F (S 20 7) (I 25) (shJ (up2 (up2 S 20 6 0) 20 12 0) 20) (shG Y 25 26 27 28) (S 20 10)) := shpS_ext (tJ 0 (by decide)) (tJ 1 (by decide)) (tJ 2 (by decide)) (tJ 3 (by decide)) (tJ 4 (by decide)) (tJ 5 (by decide)) (tJ 6 (by decide)) rfl (by show grS I F (S 20 7) (I 25) J G _ = grS I F (S 20 7) (I 25) (shJ (up2 (up2 S 20 6 0) 20 12 0) 20) (shG Y 25 26 27 28) _; unfold grS; rw [tJ 6 (by decide), tJ 0 (by decide)]) (fun k hk => by simp [shpS, up2, va_up, show k ≠ 4 by omega, show k ≠ 5 by omega, show k ≠ 6 by omega, show k ≠ 7 by omega, show k ≠ 8 by omega, show k ≠ 9 by omega, show k ≠ 10 by omega, show k ≠ 11 by omega, show k ≠ 12 by omega]) (fun r hr => by funext k; simp [shpS, hr, up2, va_up])
    have eYX : shpY Y 25 26 27 28 (tkG I F (S 20 7) (I 25) J G) g9 g8 = shpY Y 25 26 27 28 (tkG I F (S 20 7) (I 25) (shJ (up2 (up2 S 20 6 0) 20 12 0) 20) (shG Y 25 26 27 28)) g9 g8 := shpY_ext (tG 0 (by decide)) (tG 1 (by decide)) (tG 2 (by decide)) (tG 3 (by decide)) rfl rfl (fun r n0 n1 n2 n3 n4 n5 => by simp [shpY, n0, n1, n2, n3, n4, n5])
    rw [← eSX] at hS9
    rw [← eYX] at hY9
    subst hS9
    subst hY9
    have hG : CW D E A ad nv I F (shpS S 20 (tkJ I F (S 20 7) (I 25) J G) (S 20 7) (grS I F (S 20 7) (I 25) J G (S 20 10))) (shpY Y 25 26 27 28 (tkG I F (S 20 7) (I 25) J G) g9 g8) L H := hG
    refine lv_aload_n hx hb dX1_goesOn_21 rfl (lv_at hl 0 rfl) ?_
    refine lv_dup hx hb dX1_goesOn_22 rfl ?_
    refine cg_X1_42 (v := S 20 7) hCK hG (r := 20) (Or.inr rfl) rfl dX1_goesOn_23 ?_
    refine r_iconst hx hb dX1_goesOn_26 ?_
    refine r_iadd hx hb dX1_goesOn_27 ?_
    refine cp_X1_42 (r := 20) hCK hG hS (Or.inr rfl) dX1_goesOn_28 (fun H locs hG hS => ?_)
    exact c_vret hCK hQ hr hlk hG hS dX1_goesOn_31 (⟨rfl, rfl, shpS_ext rfl rfl rfl rfl rfl rfl rfl rfl rfl (fun k hk => by simp [shpS, up2, va_up, show k ≠ 4 by omega, show k ≠ 5 by omega, show k ≠ 6 by omega, show k ≠ 7 by omega, show k ≠ 8 by omega, show k ≠ 9 by omega, show k ≠ 10 by omega, show k ≠ 11 by omega, show k ≠ 12 by omega]) (fun r hr => by funext k; simp [shpS, hr, up2, va_up]), ⟨_, _, rfl⟩⟩)
theorem dX1_goes_0 : decode cX1_goes 0 = .ok (.iconst 0, 1) := by decide +kernel
theorem dX1_goes_1 : decode cX1_goes 1 = .ok (.istore_n 2, 1) := by decide +kernel
theorem dX1_goes_2 : decode cX1_goes 2 = .ok (.iload_n 2, 1) := by decide +kernel
theorem dX1_goes_3 : decode cX1_goes 3 = .ok (.iload_n 1, 1) := by decide +kernel
theorem dX1_goes_4 : decode cX1_goes 4 = .ok (.if_icmp .ge 23, 3) := by decide +kernel
theorem dX1_goes_7 : decode cX1_goes 7 = .ok (.aload_n 0, 1) := by decide +kernel
theorem dX1_goes_8 : decode cX1_goes 8 = .ok (.getfield 42, 3) := by decide +kernel
theorem dX1_goes_11 : decode cX1_goes 11 = .ok (.sipush 600, 3) := by decide +kernel
theorem dX1_goes_14 : decode cX1_goes 14 = .ok (.if_icmp .ge 13, 3) := by decide +kernel
theorem dX1_goes_17 : decode cX1_goes 17 = .ok (.aload_n 0, 1) := by decide +kernel
theorem dX1_goes_18 : decode cX1_goes 18 = .ok (.invokevirtual 175, 3) := by decide +kernel
theorem dX1_goes_21 : decode cX1_goes 21 = .ok (.iinc 2 1, 3) := by decide +kernel
theorem dX1_goes_24 : decode cX1_goes 24 = .ok (.goto (-22), 3) := by decide +kernel
theorem dX1_goes_27 : decode cX1_goes 27 = .ok (.return_, 1) := by decide +kernel
set_option maxHeartbeats 4000000 in
theorem cgoes_20 (l : Launch) (adK adV st : Nat → Nat) (D : va_G) (E : Nat → ClassId) (A : Nat → Prop) (ad nv : Nat → Nat) (I : Nat → Int) (F : Nat → Int → Int) (S : Nat → Nat → Int) (Y : Nat → Int → Int) (L : Nat → Nat) (nn : Int) (hnn : 0 ≤ nn ∧ nn ≤ 120) (hn : cOK nv I L) (gh0 : gHull I F) (gl0 : gLoad I F) (gm0 : gMark I F) (gs0 : gSea I F) (gt0 : gSet I) (gr0 : gRule F) (hru : S 0 2 = 0 → F 64 0 = -1 ∧ F 64 1 = -1) (gsh0 : gShip (S 20 7) (shJ S 20) (shG Y 25 26 27 28)) (ht0 : 0 ≤ S 20 7 ∧ S 20 7 ≤ 600) (bgr0 : 0 ≤ S 20 10 ∧ S 20 10 ≤ 80) : CM l yX1_goes cX1_goes 3 none (mrm 9) adK adV st D E A ad nv [.ref (ad 20), .int (iI nn)] I F S Y L (CQv D E A ad nv L (fun I1 F1 S1 Y1 => I = I1 ∧ F = F1 ∧ (∃ t, shpS S 20 (trN I F (I 25) nn.toNat (S 20 7) (shJ S 20) (shG Y 25 26 27 28) (S 20 10)).1 t (trN I F (I 25) nn.toNat (S 20 7) (shJ S 20) (shG Y 25 26 27 28) (S 20 10)).2 = S1) ∧ ∃ G g g1, shpY Y 25 26 27 28 G g g1 = Y1)) := by
  refine c_start (by decide) rfl (Nat.le_of_ble_eq_true rfl) ?_
  intro p e R s m args below meth c ls Q hR hQ hCK hml hr hlk hG hS hE hl
  have hx := hCK.1
  have hb := hCK.2.1
  have hown := hCK.2.2.1
  have hts := hCK.2.2.2.1
  have hK := hCK.2.2.2.2
  have hl : lv_has ls 3 [(0, .ref (ad 20)), (1, .int (iI nn))] := hl
  have i4 := gl0.1
  have i15 := gm0.1
  obtain ⟨t22, t23, t24, t25⟩ := id gt0
  refine r_iconst hx hb dX1_goes_0 ?_
  refine lv_istore_n (lv' := [(2, .int (iI 0)), (0, .ref (ad 20)), (1, .int (iI nn))]) hx hb dX1_goes_1 rfl hl (by decide) rfl (fun ls hl => ?_)
  have loop2_1 : ∀ (n : Nat) (k : Int) (S1 : Nat → Nat → Int) (Y1 : Nat → Int → Int), nn - k < (n : Int) → 0 ≤ k → k ≤ nn → (∃ (t : Int) (J : Nat → Int) (G : Nat → Int → Int) (gr : Int) (g g1 : Int → Int), S1 = shpS S 20 J t gr ∧ Y1 = shpY Y 25 26 27 28 G g g1 ∧ trN I F (I 25) (nn - k).toNat t J G gr = trN I F (I 25) nn.toNat (S 20 7) (shJ S 20) (shG Y 25 26 27 28) (S 20 10) ∧ (0 ≤ t ∧ t ≤ 600) ∧ (0 ≤ gr ∧ gr ≤ 80) ∧ gShip t J G) → ∀ (H : Heap) (locs : List Loc) (ls : Array Slot), CW D E A ad nv I F S1 Y1 L H → va_S A s.heap H locs → lv_has ls 3 [(2, .int (iI k)), (0, .ref (ad 20)), (1, .int (iI nn))] → W p l e R s m args below meth c H locs 0 0 Q (F0 m 2 ls []) := by
    intro n
    induction n with
    | zero => intro k S1 Y1 hn3 hk0 hk1 eS; exfalso; omega
    | succ n ih2 =>
      intro k S1 Y1 hn3 hk0 hk1 eS H locs ls hG hS hl
      obtain ⟨t, J, G, gr, g, g1, rfl, rfl, hRu, ht, bgr, gsh⟩ := eS
      refine lv_iload_n hx hb dX1_goes_2 rfl (lv_at hl 0 rfl) ?_
      refine lv_iload_n hx hb dX1_goes_3 rfl (lv_at hl 2 rfl) ?_
      refine r_icmp_ge (tgt := 27) hx hb dX1_goes_4 (by decide) (by omega) (by omega) (fun c4 => ?_) (fun c4 => ?_)
      · have er := trN_e I F (I 25) (n := nn - k) (t := t) J G gr (by omega)
        rw [hRu] at er
        exact c_vret hCK hQ hr hlk hG hS dX1_goes_27 (⟨rfl, rfl, ⟨t, by rw [er]⟩, ⟨_, _, _, rfl⟩⟩)
      · refine lv_aload_n hx hb dX1_goes_7 rfl (lv_at hl 1 rfl) ?_
        refine cg_X1_42 (v := t) hCK hG (r := 20) (Or.inr rfl) rfl dX1_goes_8 ?_
        refine r_sipush hx hb dX1_goes_11 (by decide) ?_
        refine r_icmp_ge (tgt := 27) hx hb dX1_goes_14 (by decide) (by omega) (by decide) (fun c5 => ?_) (fun c5 => ?_)
        · have er := trN_e I F (I 25) (n := nn - k) (t := t) J G gr (by omega)
          rw [hRu] at er
          exact c_vret hCK hQ hr hlk hG hS dX1_goes_27 (⟨rfl, rfl, ⟨t, by rw [er]⟩, ⟨_, _, _, rfl⟩⟩)
        · have gsh2 := gShip_tick (F := F) (t := t) (fi := I 25) ht.1 i4 i15 gsh
          have hgb := grS_bd gsh2 bgr
          refine lv_aload_n hx hb dX1_goes_17 rfl (lv_at hl 1 rfl) ?_
          refine c_callv (c_run (n := 0) (C0 := RX1) (b := ad 20) (rest := []) (as := []) hCK hE hml (cgoesOn_20 l adK adV st D E A ad nv I F (shpS S 20 J t gr) (shpY Y 25 26 27 28 G g g1) L J G hn gh0 gl0 gm0 gs0 gt0 gr0 hru rfl rfl rfl rfl rfl rfl rfl rfl rfl (gsh.mono (by omega)) (show 0 ≤ t ∧ t ≤ 1000 by omega) bgr) (g_rec (r := 20) (ci := 1) hK hG (Or.inl (by omega)) rfl (cC_s (Or.inr rfl))) q948 q848 q849 q72 q850 (by decide +kernel) ⟨rfl, rfl⟩ hR (by decide) ⟨Nat.zero_le _, Nat.zero_le _⟩ hG hS rfl hl.1 rfl (Nat.le_of_ble_eq_true rfl) dX1_goes_18) hS (fun I7 F8 S9 Y10 H locs hp11 hG hS => ?_)
          obtain ⟨rfl, rfl, hS9, ga1, gb1, hY9⟩ := hp11
          obtain ⟨J1, eJ1⟩ : ∃ x, x = tkJ I F t (I 25) J G := ⟨_, rfl⟩
          obtain ⟨G1, eG1⟩ : ∃ x, x = tkG I F t (I 25) J G := ⟨_, rfl⟩
          obtain ⟨gr1, eg1⟩ : ∃ x, x = grS I F t (I 25) J G gr := ⟨_, rfl⟩
          have hS9 : shpS (shpS S 20 J t gr) 20 (tkJ I F t (I 25) J G) (t + 1) (grS I F t (I 25) J G gr) = _ := hS9
          have hY9 : shpY (shpY Y 25 26 27 28 G g g1) 25 26 27 28 (tkG I F t (I 25) J G) ga1 gb1 = _ := hY9
          rw [← eJ1, ← eg1, shpS_shpS] at hS9
          rw [← eG1, shpY_shpY] at hY9
          subst hS9
          subst hY9
          have hG : CW D E A ad nv I F (shpS S 20 J1 (t + 1) gr1) (shpY Y 25 26 27 28 G1 ga1 gb1) L H := hG
          refine lv_iinc (v := iI (k + 1)) (lv' := [(2, .int (iI (k + 1))), (0, .ref (ad 20)), (1, .int (iI nn))]) hx hb dX1_goes_21 hl (k := 0) rfl (iI_add _ _) (by decide) rfl (fun ls hl => ?_)
          refine lv_goto (tgt := 2) hx hb dX1_goes_24 (by decide) ?_
          exact ih2 (k + 1) (shpS S 20 J1 (t + 1) gr1) (shpY Y 25 26 27 28 G1 ga1 gb1) (by omega) (by omega) (by omega) (⟨t + 1, J1, G1, gr1, ga1, gb1, rfl, rfl, by rw [← hRu, trN_s I F (I 25) J G gr (by omega) (by omega), show nn - (k + 1) = nn - k - 1 by omega, eJ1, eG1, eg1]; rfl, by omega, by rw [eg1]; exact hgb, by rw [eJ1, eG1]; exact gsh2⟩) _ _ _ hG hS (lv_sub hl [0, 1, 2] rfl)
  exact loop2_1 ((nn - 0 : Int).toNat + 1) 0 S Y (by omega) (by omega) (by omega) (⟨S 20 7, shJ S 20, shG Y 25 26 27 28, S 20 10, Y 3, Y 2, (shpS_self _ _).symm, (shpY_self _ _ _ _ _).symm, by rw [Int.sub_zero], ht0, bgr0, gsh0⟩) _ _ _ hG hS (lv_sub hl [0, 1, 2] rfl)
theorem dX0_go_0 : decode cX0_go 0 = .ok (.iload_n 1, 1) := by decide +kernel
theorem dX0_go_1 : decode cX0_go 1 = .ok (.i2l, 1) := by decide +kernel
theorem dX0_go_2 : decode cX0_go 2 = .ok (.lconst 0, 1) := by decide +kernel
theorem dX0_go_3 : decode cX0_go 3 = .ok (.ldc2_w 269, 3) := by decide +kernel
theorem dX0_go_6 : decode cX0_go 6 = .ok (.invokestatic 101, 3) := by decide +kernel
theorem dX0_go_9 : decode cX0_go 9 = .ok (.ifCond .ne 5, 3) := by decide +kernel
theorem dX0_go_12 : decode cX0_go 12 = .ok (.iconst (-1), 1) := by decide +kernel
theorem dX0_go_13 : decode cX0_go 13 = .ok (.ireturn, 1) := by decide +kernel
theorem dX0_go_14 : decode cX0_go 14 = .ok (.iconst 0, 1) := by decide +kernel
theorem dX0_go_15 : decode cX0_go 15 = .ok (.istore_n 2, 1) := by decide +kernel
theorem dX0_go_16 : decode cX0_go 16 = .ok (.iload_n 2, 1) := by decide +kernel
theorem dX0_go_17 : decode cX0_go 17 = .ok (.iload_n 1, 1) := by decide +kernel
theorem dX0_go_18 : decode cX0_go 18 = .ok (.if_icmp .ge 133, 3) := by decide +kernel
theorem dX0_go_21 : decode cX0_go 21 = .ok (.aload_n 0, 1) := by decide +kernel
theorem dX0_go_22 : decode cX0_go 22 = .ok (.getfield 68, 3) := by decide +kernel
theorem dX0_go_25 : decode cX0_go 25 = .ok (.getfield 271, 3) := by decide +kernel
theorem dX0_go_28 : decode cX0_go 28 = .ok (.sipush 600, 3) := by decide +kernel
theorem dX0_go_31 : decode cX0_go 31 = .ok (.if_icmp .ge 120, 3) := by decide +kernel
theorem dX0_go_34 : decode cX0_go 34 = .ok (.aload_n 0, 1) := by decide +kernel
theorem dX0_go_35 : decode cX0_go 35 = .ok (.getfield 77, 3) := by decide +kernel
theorem dX0_go_38 : decode cX0_go 38 = .ok (.aload_n 0, 1) := by decide +kernel
theorem dX0_go_39 : decode cX0_go 39 = .ok (.getfield 68, 3) := by decide +kernel
theorem dX0_go_42 : decode cX0_go 42 = .ok (.getfield 271, 3) := by decide +kernel
theorem dX0_go_45 : decode cX0_go 45 = .ok (.aaload, 1) := by decide +kernel
theorem dX0_go_46 : decode cX0_go 46 = .ok (.astore_n 3, 1) := by decide +kernel
theorem dX0_go_47 : decode cX0_go 47 = .ok (.aload_n 0, 1) := by decide +kernel
theorem dX0_go_48 : decode cX0_go 48 = .ok (.getfield 68, 3) := by decide +kernel
theorem dX0_go_51 : decode cX0_go 51 = .ok (.getfield 274, 3) := by decide +kernel
theorem dX0_go_54 : decode cX0_go 54 = .ok (.istore 4, 2) := by decide +kernel
theorem dX0_go_56 : decode cX0_go 56 = .ok (.aload_n 3, 1) := by decide +kernel
theorem dX0_go_57 : decode cX0_go 57 = .ok (.iconst 4, 1) := by decide +kernel
theorem dX0_go_58 : decode cX0_go 58 = .ok (.aload_n 0, 1) := by decide +kernel
theorem dX0_go_59 : decode cX0_go 59 = .ok (.getfield 60, 3) := by decide +kernel
theorem dX0_go_62 : decode cX0_go 62 = .ok (.iastore, 1) := by decide +kernel
theorem dX0_go_63 : decode cX0_go 63 = .ok (.aload_n 0, 1) := by decide +kernel
theorem dX0_go_64 : decode cX0_go 64 = .ok (.getfield 68, 3) := by decide +kernel
theorem dX0_go_67 : decode cX0_go 67 = .ok (.invokevirtual 277, 3) := by decide +kernel
theorem dX0_go_70 : decode cX0_go 70 = .ok (.aload_n 3, 1) := by decide +kernel
theorem dX0_go_71 : decode cX0_go 71 = .ok (.iconst 0, 1) := by decide +kernel
theorem dX0_go_72 : decode cX0_go 72 = .ok (.iload 4, 2) := by decide +kernel
theorem dX0_go_74 : decode cX0_go 74 = .ok (.ifCond .eq 7, 3) := by decide +kernel
theorem dX0_go_77 : decode cX0_go 77 = .ok (.iconst 0, 1) := by decide +kernel
theorem dX0_go_78 : decode cX0_go 78 = .ok (.goto 10, 3) := by decide +kernel
theorem dX0_go_81 : decode cX0_go 81 = .ok (.aload_n 0, 1) := by decide +kernel
theorem dX0_go_82 : decode cX0_go 82 = .ok (.getfield 68, 3) := by decide +kernel
theorem dX0_go_85 : decode cX0_go 85 = .ok (.getfield 280, 3) := by decide +kernel
theorem dX0_go_88 : decode cX0_go 88 = .ok (.iastore, 1) := by decide +kernel
theorem dX0_go_89 : decode cX0_go 89 = .ok (.aload_n 3, 1) := by decide +kernel
theorem dX0_go_90 : decode cX0_go 90 = .ok (.iconst 1, 1) := by decide +kernel
theorem dX0_go_91 : decode cX0_go 91 = .ok (.iload 4, 2) := by decide +kernel
theorem dX0_go_93 : decode cX0_go 93 = .ok (.ifCond .eq 7, 3) := by decide +kernel
theorem dX0_go_96 : decode cX0_go 96 = .ok (.iconst 0, 1) := by decide +kernel
theorem dX0_go_97 : decode cX0_go 97 = .ok (.goto 10, 3) := by decide +kernel
theorem dX0_go_100 : decode cX0_go 100 = .ok (.aload_n 0, 1) := by decide +kernel
theorem dX0_go_101 : decode cX0_go 101 = .ok (.getfield 68, 3) := by decide +kernel
theorem dX0_go_104 : decode cX0_go 104 = .ok (.getfield 283, 3) := by decide +kernel
theorem dX0_go_107 : decode cX0_go 107 = .ok (.iastore, 1) := by decide +kernel
theorem dX0_go_108 : decode cX0_go 108 = .ok (.aload_n 3, 1) := by decide +kernel
theorem dX0_go_109 : decode cX0_go 109 = .ok (.iconst 2, 1) := by decide +kernel
theorem dX0_go_110 : decode cX0_go 110 = .ok (.iload 4, 2) := by decide +kernel
theorem dX0_go_112 : decode cX0_go 112 = .ok (.ifCond .eq 7, 3) := by decide +kernel
theorem dX0_go_115 : decode cX0_go 115 = .ok (.iconst 0, 1) := by decide +kernel
theorem dX0_go_116 : decode cX0_go 116 = .ok (.goto 10, 3) := by decide +kernel
theorem dX0_go_119 : decode cX0_go 119 = .ok (.aload_n 0, 1) := by decide +kernel
theorem dX0_go_120 : decode cX0_go 120 = .ok (.getfield 68, 3) := by decide +kernel
theorem dX0_go_123 : decode cX0_go 123 = .ok (.getfield 286, 3) := by decide +kernel
theorem dX0_go_126 : decode cX0_go 126 = .ok (.iastore, 1) := by decide +kernel
theorem dX0_go_127 : decode cX0_go 127 = .ok (.aload_n 3, 1) := by decide +kernel
theorem dX0_go_128 : decode cX0_go 128 = .ok (.iconst 3, 1) := by decide +kernel
theorem dX0_go_129 : decode cX0_go 129 = .ok (.aload_n 0, 1) := by decide +kernel
theorem dX0_go_130 : decode cX0_go 130 = .ok (.getfield 68, 3) := by decide +kernel
theorem dX0_go_133 : decode cX0_go 133 = .ok (.getfield 289, 3) := by decide +kernel
theorem dX0_go_136 : decode cX0_go 136 = .ok (.ifCond .eq 7, 3) := by decide +kernel
theorem dX0_go_139 : decode cX0_go 139 = .ok (.iconst 1, 1) := by decide +kernel
theorem dX0_go_140 : decode cX0_go 140 = .ok (.goto 4, 3) := by decide +kernel
theorem dX0_go_143 : decode cX0_go 143 = .ok (.iconst 0, 1) := by decide +kernel
theorem dX0_go_144 : decode cX0_go 144 = .ok (.iastore, 1) := by decide +kernel
theorem dX0_go_145 : decode cX0_go 145 = .ok (.iinc 2 1, 3) := by decide +kernel
theorem dX0_go_148 : decode cX0_go 148 = .ok (.goto (-132), 3) := by decide +kernel
theorem dX0_go_151 : decode cX0_go 151 = .ok (.aload_n 0, 1) := by decide +kernel
theorem dX0_go_152 : decode cX0_go 152 = .ok (.getfield 68, 3) := by decide +kernel
theorem dX0_go_155 : decode cX0_go 155 = .ok (.getfield 271, 3) := by decide +kernel
theorem dX0_go_158 : decode cX0_go 158 = .ok (.ireturn, 1) := by decide +kernel
set_option maxHeartbeats 4000000 in
theorem cgo (l : Launch) (adK adV st : Nat → Nat) (D : va_G) (E : Nat → ClassId) (A : Nat → Prop) (ad nv : Nat → Nat) (I : Nat → Int) (F : Nat → Int → Int) (S : Nat → Nat → Int) (Y : Nat → Int → Int) (L : Nat → Nat) (nn : Int) (r_n : R32 nn) (K0 : Nat → Int → Int) (hn : cOK nv I L) (gh0 : gHull I F) (gl0 : gLoad I F) (gm0 : gMark I F) (gs0 : gSea I F) (gt0 : gSet I) (gr0 : gRule F) (hru : S 0 2 = 0 → F 64 0 = -1 ∧ F 64 1 = -1) (hK0 : keptOK Y K0) (gsh0 : gShip (S 19 7) (shJ S 19) (shG Y 21 22 23 24)) (ht0 : 0 ≤ S 19 7 ∧ S 19 7 ≤ 600) (bgr0 : 0 ≤ S 19 10 ∧ S 19 10 ≤ 80) : CM l yX0_go cX0_go 5 (some .int) (mrm 9) adK adV st D E A ad nv [.ref (ad 0), .int (iI nn)] I F S Y L (CQi D E A ad nv L (fun z I1 F1 S1 Y1 => I = I1 ∧ F = F1 ∧ (((0 ≤ nn ∧ nn ≤ 100) ∧ (goN I F nn.toNat (S 19 7) (shJ S 19) (shG Y 21 22 23 24) K0).1 = z ∧ (∃ gr, shpS S 19 (goN I F nn.toNat (S 19 7) (shJ S 19) (shG Y 21 22 23 24) K0).2.1 (goN I F nn.toNat (S 19 7) (shJ S 19) (shG Y 21 22 23 24) K0).1 gr = S1 ∧ 0 ≤ gr ∧ gr ≤ 80) ∧ (Y1 21 = (goN I F nn.toNat (S 19 7) (shJ S 19) (shG Y 21 22 23 24) K0).2.2.1 0 ∧ Y1 24 = (goN I F nn.toNat (S 19 7) (shJ S 19) (shG Y 21 22 23 24) K0).2.2.1 1 ∧ Y1 23 = (goN I F nn.toNat (S 19 7) (shJ S 19) (shG Y 21 22 23 24) K0).2.2.1 2 ∧ Y1 22 = (goN I F nn.toNat (S 19 7) (shJ S 19) (shG Y 21 22 23 24) K0).2.2.1 3) ∧ keptOK Y1 (goN I F nn.toNat (S 19 7) (shJ S 19) (shG Y 21 22 23 24) K0).2.2.2 ∧ (∀ r, r ≠ 2 → r ≠ 3 → r ≠ 21 → r ≠ 22 → r ≠ 23 → r ≠ 24 → (r < 1000 ∨ 1600 ≤ r) → Y1 r = Y r)) ∨ (¬ (0 ≤ nn ∧ nn ≤ 100) ∧ -1 = z ∧ S = S1 ∧ Y = Y1)))) := by
  refine c_start (by decide) rfl (Nat.le_of_ble_eq_true rfl) ?_
  intro p e R s m args below meth c ls Q hR hQ hCK hml hr hlk hG hS hE hl
  have hx := hCK.1
  have hb := hCK.2.1
  have hown := hCK.2.2.1
  have hts := hCK.2.2.2.1
  have hK := hCK.2.2.2.2
  have hl : lv_has ls 5 [(0, .ref (ad 0)), (1, .int (iI nn))] := hl
  have i4 := gl0.1
  have i15 := gm0.1
  obtain ⟨t22, t23, t24, t25⟩ := id gt0
  refine lv_iload_n hx hb dX0_go_0 rfl (lv_at hl 1 rfl) ?_
  refine r_i2l hx hb dX0_go_1 r_n ?_
  refine r_lconst hx hb 0 dX0_go_2 (by decide) ?_
  refine r_ldc2 hx hb 100 hown (hts _ q846) (by decide) dX0_go_3 ?_
  refine s_calli (j_runS (n := 3) (rest := []) (as := [.long (iL nn), .long (iL 0), .long (iL 100)]) hx hb hml hown hts ((cin l nn 0 100 (by omega) (by decide) (by decide)).jm) (fun _ _ _ _ _ => trivial) (fun _ _ _ => trivial) q296 q297 q68 q298 (by decide +kernel) ⟨rfl, rfl⟩ hR (by decide) ⟨Nat.zero_le _, Nat.zero_le _⟩ rfl hl.1 rfl (Nat.le_of_ble_eq_true rfl) dX0_go_6) ?_
  refine r_ifneB (tgt := 14) hx hb dX0_go_9 (by decide) (fun c1 => ?_) (fun c1 => ?_)
  · refine r_iconst hx hb dX0_go_14 ?_
    refine lv_istore_n (lv' := [(2, .int (iI 0)), (0, .ref (ad 0)), (1, .int (iI nn))]) hx hb dX0_go_15 rfl hl (by decide) rfl (fun ls hl => ?_)
    have loop16_2 : ∀ (n : Nat) (k : Int) (S1 : Nat → Nat → Int) (Y1 : Nat → Int → Int), nn - k < (n : Int) → 0 ≤ k → k ≤ nn → (∃ (t : Int) (J : Nat → Int) (G K : Nat → Int → Int) (gr : Int), S1 = shpS S 19 J t gr ∧ (Y1 21 = G 0 ∧ Y1 24 = G 1 ∧ Y1 23 = G 2 ∧ Y1 22 = G 3) ∧ goN I F (nn - k).toNat t J G K = goN I F nn.toNat (S 19 7) (shJ S 19) (shG Y 21 22 23 24) K0 ∧ (0 ≤ t ∧ t ≤ 600) ∧ (0 ≤ gr ∧ gr ≤ 80) ∧ gShip t J G ∧ keptOK Y1 K ∧ (∀ r, r ≠ 2 → r ≠ 3 → r ≠ 21 → r ≠ 22 → r ≠ 23 → r ≠ 24 → (r < 1000 ∨ 1600 ≤ r) → Y1 r = Y r)) → ∀ (H : Heap) (locs : List Loc) (ls : Array Slot), CW D E A ad nv I F S1 Y1 L H → va_S A s.heap H locs → lv_has ls 5 [(2, .int (iI k)), (0, .ref (ad 0)), (1, .int (iI nn))] → W p l e R s m args below meth c H locs 0 0 Q (F0 m 16 ls []) := by
      intro n
      induction n with
      | zero => intro k S1 Y1 hn4 hk0 hk1 eS; exfalso; omega
      | succ n ih3 =>
        intro k S1 Y1 hn4 hk0 hk1 eS H locs ls hG hS hl
        obtain ⟨t, J, G, K, gr, rfl, hY, hRu, ht, bgr, gsh, hKp, hfar⟩ := eS
        obtain ⟨y0, y1, y2, y3⟩ := hY
        refine lv_iload_n hx hb dX0_go_16 rfl (lv_at hl 0 rfl) ?_
        refine lv_iload_n hx hb dX0_go_17 rfl (lv_at hl 2 rfl) ?_
        refine r_icmp_ge (tgt := 151) hx hb dX0_go_18 (by decide) (by omega) r_n (fun c5 => ?_) (fun c5 => ?_)
        · have er := goN_e I F (n := nn - k) (t := t) J G K (by omega)
          rw [hRu] at er
          refine lv_aload_n hx hb dX0_go_151 rfl (lv_at hl 1 rfl) ?_
          refine cg_X0_68 hCK hG dX0_go_152 ?_
          refine cg_X0_271 (v := t) hCK hE hG (r := 19) (Or.inl rfl) rfl dX0_go_155 ?_
          exact c_iret hCK hQ hr hlk hG hS dX0_go_158 (⟨rfl, rfl, Or.inl ⟨by omega, by rw [er], ⟨gr, by rw [er], bgr⟩, by rw [er]; exact ⟨y0, y1, y2, y3⟩, by rw [er]; exact hKp, hfar⟩⟩)
        · refine lv_aload_n hx hb dX0_go_21 rfl (lv_at hl 1 rfl) ?_
          refine cg_X0_68 hCK hG dX0_go_22 ?_
          refine cg_X0_271 (v := t) hCK hE hG (r := 19) (Or.inl rfl) rfl dX0_go_25 ?_
          refine r_sipush hx hb dX0_go_28 (by decide) ?_
          refine r_icmp_ge (tgt := 151) hx hb dX0_go_31 (by decide) (by omega) (by decide) (fun c6 => ?_) (fun c6 => ?_)
          · have er := goN_e I F (n := nn - k) (t := t) J G K (by omega)
            rw [hRu] at er
            refine lv_aload_n hx hb dX0_go_151 rfl (lv_at hl 1 rfl) ?_
            refine cg_X0_68 hCK hG dX0_go_152 ?_
            refine cg_X0_271 (v := t) hCK hE hG (r := 19) (Or.inl rfl) rfl dX0_go_155 ?_
            exact c_iret hCK hQ hr hlk hG hS dX0_go_158 (⟨rfl, rfl, Or.inl ⟨by omega, by rw [er], ⟨gr, by rw [er], bgr⟩, by rw [er]; exact ⟨y0, y1, y2, y3⟩, by rw [er]; exact hKp, hfar⟩⟩)
          · have b4 : 0 ≤ J 4 ∧ J 4 ≤ 1 := gsh.2.2.2.2.1
            have gsh2 := gShip_tick (F := F) (t := t) (fi := I 25) ht.1 i4 i15 gsh
            have hgb := grS_bd gsh2 bgr
            have n1000 : ∀ r, r < 1000 → r ≠ 1000 + t.toNat := fun r hr => by omega
            refine lv_aload_n hx hb dX0_go_34 rfl (lv_at hl 1 rfl) ?_
            refine cg_X0_77 hCK hG dX0_go_35 ?_
            refine lv_aload_n hx hb dX0_go_38 rfl (lv_at hl 1 rfl) ?_
            refine cg_X0_68 hCK hG dX0_go_39 ?_
            refine cg_X0_271 (v := t) hCK hE hG (r := 19) (Or.inl rfl) rfl dX0_go_42 ?_
            refine cl_9 (z := t) hCK hG (by omega) dX0_go_45 ?_
            refine lv_astore_n (lv' := [(3, .ref (ad (1000 + t.toNat))), (2, .int (iI k)), (0, .ref (ad 0)), (1, .int (iI nn))]) hx hb dX0_go_46 rfl hl (by decide) rfl (fun ls hl => ?_)
            refine lv_aload_n hx hb dX0_go_47 rfl (lv_at hl 2 rfl) ?_
            refine cg_X0_68 hCK hG dX0_go_48 ?_
            refine cg_X0_274 (v := J 4) hCK hE hG (r := 19) (Or.inl rfl) rfl dX0_go_51 ?_
            refine lv_istore (lv' := [(4, .int (iI (J 4))), (3, .ref (ad (1000 + t.toNat))), (2, .int (iI k)), (0, .ref (ad 0)), (1, .int (iI nn))]) hx hb dX0_go_54 hl (by decide) rfl (fun ls hl => ?_)
            refine lv_aload_n hx hb dX0_go_56 rfl (lv_at hl 1 rfl) ?_
            refine r_iconst hx hb dX0_go_57 ?_
            refine lv_aload_n hx hb dX0_go_58 rfl (lv_at hl 3 rfl) ?_
            refine cg_X0_60 (v := I 24) hCK hG rfl dX0_go_59 ?_
            refine cs_kp (k := t) (z := 4) (v := I 24) hCK hG hS (by omega) (by decide) dX0_go_62 (fun H locs hG hS => ?_)
            have hG : CW D E A ad nv I F (shpS S 19 J t gr) (va_up Y1 (1000 + t.toNat) (updZ (Y1 (1000 + t.toNat)) 4 (I 24))) L H := hG
            refine lv_aload_n hx hb dX0_go_63 rfl (lv_at hl 3 rfl) ?_
            refine cg_X0_68 hCK hG dX0_go_64 ?_
            refine c_callv (c_run (n := 0) (C0 := RX1) (b := ad 19) (rest := []) (as := []) hCK hE hml (cgoesOn_19 l adK adV st D E A ad nv I F (shpS S 19 J t gr) (va_up Y1 (1000 + t.toNat) (updZ (Y1 (1000 + t.toNat)) 4 (I 24))) L J G hn gh0 gl0 gm0 gs0 gt0 gr0 hru rfl rfl rfl rfl rfl (y0.symm.trans (va_up_ne _ _ (n1000 21 (by decide))).symm) (y1.symm.trans (va_up_ne _ _ (n1000 24 (by decide))).symm) (y2.symm.trans (va_up_ne _ _ (n1000 23 (by decide))).symm) (y3.symm.trans (va_up_ne _ _ (n1000 22 (by decide))).symm) (gsh.mono (by omega)) (show 0 ≤ t ∧ t ≤ 1000 by omega) bgr) (g_rec (r := 19) (ci := 1) hK hG (Or.inl (by omega)) rfl (cC_s (Or.inl rfl))) q847 q848 q849 q72 q850 (by decide +kernel) ⟨rfl, rfl⟩ hR (by decide) ⟨Nat.zero_le _, Nat.zero_le _⟩ hG hS rfl hl.1 rfl (Nat.le_of_ble_eq_true rfl) dX0_go_67) hS (fun I8 F9 S10 Y11 H locs hp12 hG hS => ?_)
            obtain ⟨rfl, rfl, hS9, ga1, gb1, hY9⟩ := hp12
            obtain ⟨J1, eJ1⟩ : ∃ x, x = tkJ I F t (I 25) J G := ⟨_, rfl⟩
            obtain ⟨G1, eG1⟩ : ∃ x, x = tkG I F t (I 25) J G := ⟨_, rfl⟩
            obtain ⟨gr1, eg1⟩ : ∃ x, x = grS I F t (I 25) J G gr := ⟨_, rfl⟩
            have hS9 : shpS (shpS S 19 J t gr) 19 (tkJ I F t (I 25) J G) (t + 1) (grS I F t (I 25) J G gr) = _ := hS9
            have hY9 : shpY (va_up Y1 (1000 + t.toNat) (updZ (Y1 (1000 + t.toNat)) 4 (I 24))) 21 22 23 24 (tkG I F t (I 25) J G) ga1 gb1 = _ := hY9
            rw [← eJ1, ← eg1, shpS_shpS] at hS9
            rw [← eG1] at hY9
            subst hS9
            subst hY9
            have hG : CW D E A ad nv I F (shpS S 19 J1 (t + 1) gr1) (shpY (va_up Y1 (1000 + t.toNat) (updZ (Y1 (1000 + t.toNat)) 4 (I 24))) 21 22 23 24 G1 ga1 gb1) L H := hG
            have b_wh : J1 6 = 0 ∨ J1 6 = 1 := by rw [eJ1]; exact tkJ6 _ _ _ _ _ _
            refine lv_aload_n hx hb dX0_go_70 rfl (lv_at hl 1 rfl) ?_
            refine r_iconst hx hb dX0_go_71 ?_
            refine lv_iload hx hb dX0_go_72 (lv_at hl 0 rfl) ?_
            have jn13 : W p l e R s m args below meth c H locs 0 0 Q (F0 m 88 ls [.int (iI (if J 4 ≠ 0 then 0 else J1 0)), .int (iI 0), .ref (ad (1000 + t.toNat))]) := by
              refine cs_kp (k := t) (z := 0) (v := if J 4 ≠ 0 then 0 else J1 0) hCK hG hS (by omega) (by decide) dX0_go_88 (fun H locs hG hS => ?_)
              have hG : CW D E A ad nv I F (shpS S 19 J1 (t + 1) gr1) (va_up (shpY (va_up Y1 (1000 + t.toNat) (updZ (Y1 (1000 + t.toNat)) 4 (I 24))) 21 22 23 24 G1 ga1 gb1) (1000 + t.toNat) (updZ ((shpY (va_up Y1 (1000 + t.toNat) (updZ (Y1 (1000 + t.toNat)) 4 (I 24))) 21 22 23 24 G1 ga1 gb1) (1000 + t.toNat)) 0 (if J 4 ≠ 0 then 0 else J1 0))) L H := hG
              refine lv_aload_n hx hb dX0_go_89 rfl (lv_at hl 1 rfl) ?_
              refine r_iconst hx hb dX0_go_90 ?_
              refine lv_iload hx hb dX0_go_91 (lv_at hl 0 rfl) ?_
              have jn14 : W p l e R s m args below meth c H locs 0 0 Q (F0 m 107 ls [.int (iI (if J 4 ≠ 0 then 0 else J1 1)), .int (iI 1), .ref (ad (1000 + t.toNat))]) := by
                refine cs_kp (k := t) (z := 1) (v := if J 4 ≠ 0 then 0 else J1 1) hCK hG hS (by omega) (by decide) dX0_go_107 (fun H locs hG hS => ?_)
                have hG : CW D E A ad nv I F (shpS S 19 J1 (t + 1) gr1) (va_up (shpY (va_up Y1 (1000 + t.toNat) (updZ (Y1 (1000 + t.toNat)) 4 (I 24))) 21 22 23 24 G1 ga1 gb1) (1000 + t.toNat) (updZ (updZ ((shpY (va_up Y1 (1000 + t.toNat) (updZ (Y1 (1000 + t.toNat)) 4 (I 24))) 21 22 23 24 G1 ga1 gb1) (1000 + t.toNat)) 0 (if J 4 ≠ 0 then 0 else J1 0)) 1 (if J 4 ≠ 0 then 0 else J1 1))) L H := by
                  have eY : va_up (shpY (va_up Y1 (1000 + t.toNat) (updZ (Y1 (1000 + t.toNat)) 4 (I 24))) 21 22 23 24 G1 ga1 gb1) (1000 + t.toNat) (updZ (updZ ((shpY (va_up Y1 (1000 + t.toNat) (updZ (Y1 (1000 + t.toNat)) 4 (I 24))) 21 22 23 24 G1 ga1 gb1) (1000 + t.toNat)) 0 (if J 4 ≠ 0 then 0 else J1 0)) 1 (if J 4 ≠ 0 then 0 else J1 1)) = va_up (va_up (shpY (va_up Y1 (1000 + t.toNat) (updZ (Y1 (1000 + t.toNat)) 4 (I 24))) 21 22 23 24 G1 ga1 gb1) (1000 + t.toNat) (updZ ((shpY (va_up Y1 (1000 + t.toNat) (updZ (Y1 (1000 + t.toNat)) 4 (I 24))) 21 22 23 24 G1 ga1 gb1) (1000 + t.toNat)) 0 (if J 4 ≠ 0 then 0 else J1 0))) (1000 + t.toNat) (updZ ((va_up (shpY (va_up Y1 (1000 + t.toNat) (updZ (Y1 (1000 + t.toNat)) 4 (I 24))) 21 22 23 24 G1 ga1 gb1) (1000 + t.toNat) (updZ ((shpY (va_up Y1 (1000 + t.toNat) (updZ (Y1 (1000 + t.toNat)) 4 (I 24))) 21 22 23 24 G1 ga1 gb1) (1000 + t.toNat)) 0 (if J 4 ≠ 0 then 0 else J1 0))) (1000 + t.toNat)) 1 (if J 4 ≠ 0 then 0 else J1 1)) := by
                    funext i
                    by_cases h1 : i = 1000 + t.toNat
                    · subst h1; simp [va_up]
                    · simp [va_up, h1]
                  rw [eY]; exact hG
                refine lv_aload_n hx hb dX0_go_108 rfl (lv_at hl 1 rfl) ?_
                refine r_iconst hx hb dX0_go_109 ?_
                refine lv_iload hx hb dX0_go_110 (lv_at hl 0 rfl) ?_
                have jn15 : W p l e R s m args below meth c H locs 0 0 Q (F0 m 126 ls [.int (iI (if J 4 ≠ 0 then 0 else J1 5)), .int (iI 2), .ref (ad (1000 + t.toNat))]) := by
                  obtain ⟨fz, h_fz⟩ : ∃ x : Int, x = if J 4 ≠ 0 then 0 else J1 5 := ⟨_, rfl⟩
                  refine W.eq (g2 := F0 m 126 ls [.int (iI fz), .int (iI 2), .ref (ad (1000 + t.toNat))]) (by subst h_fz; rfl) ?_
                  have e_fz : fz = J1 5 := by
                    rw [h_fz]
                    by_cases q : J 4 ≠ 0
                    · rw [if_pos q, eJ1]; exact (tkJ_over q).symm
                    · rw [if_neg q]
                  refine cs_kp (k := t) (z := 2) (v := fz) hCK hG hS (by omega) (by decide) dX0_go_126 (fun H locs hG hS => ?_)
                  have hG : CW D E A ad nv I F (shpS S 19 J1 (t + 1) gr1) (va_up (shpY (va_up Y1 (1000 + t.toNat) (updZ (Y1 (1000 + t.toNat)) 4 (I 24))) 21 22 23 24 G1 ga1 gb1) (1000 + t.toNat) (updZ (updZ (updZ ((shpY (va_up Y1 (1000 + t.toNat) (updZ (Y1 (1000 + t.toNat)) 4 (I 24))) 21 22 23 24 G1 ga1 gb1) (1000 + t.toNat)) 0 (if J 4 ≠ 0 then 0 else J1 0)) 1 (if J 4 ≠ 0 then 0 else J1 1)) 2 fz)) L H := by
                    have eY : va_up (shpY (va_up Y1 (1000 + t.toNat) (updZ (Y1 (1000 + t.toNat)) 4 (I 24))) 21 22 23 24 G1 ga1 gb1) (1000 + t.toNat) (updZ (updZ (updZ ((shpY (va_up Y1 (1000 + t.toNat) (updZ (Y1 (1000 + t.toNat)) 4 (I 24))) 21 22 23 24 G1 ga1 gb1) (1000 + t.toNat)) 0 (if J 4 ≠ 0 then 0 else J1 0)) 1 (if J 4 ≠ 0 then 0 else J1 1)) 2 fz) = va_up (va_up (shpY (va_up Y1 (1000 + t.toNat) (updZ (Y1 (1000 + t.toNat)) 4 (I 24))) 21 22 23 24 G1 ga1 gb1) (1000 + t.toNat) (updZ (updZ ((shpY (va_up Y1 (1000 + t.toNat) (updZ (Y1 (1000 + t.toNat)) 4 (I 24))) 21 22 23 24 G1 ga1 gb1) (1000 + t.toNat)) 0 (if J 4 ≠ 0 then 0 else J1 0)) 1 (if J 4 ≠ 0 then 0 else J1 1))) (1000 + t.toNat) (updZ ((va_up (shpY (va_up Y1 (1000 + t.toNat) (updZ (Y1 (1000 + t.toNat)) 4 (I 24))) 21 22 23 24 G1 ga1 gb1) (1000 + t.toNat) (updZ (updZ ((shpY (va_up Y1 (1000 + t.toNat) (updZ (Y1 (1000 + t.toNat)) 4 (I 24))) 21 22 23 24 G1 ga1 gb1) (1000 + t.toNat)) 0 (if J 4 ≠ 0 then 0 else J1 0)) 1 (if J 4 ≠ 0 then 0 else J1 1))) (1000 + t.toNat)) 2 fz) := by
                      funext i
                      by_cases h1 : i = 1000 + t.toNat
                      · subst h1; simp [va_up]
                      · simp [va_up, h1]
                    rw [eY]; exact hG
                  refine lv_aload_n hx hb dX0_go_127 rfl (lv_at hl 1 rfl) ?_
                  refine r_iconst hx hb dX0_go_128 ?_
                  refine lv_aload_n hx hb dX0_go_129 rfl (lv_at hl 3 rfl) ?_
                  refine cg_X0_68 hCK hG dX0_go_130 ?_
                  refine cg_X0_289 (v := J1 6) hCK hE hG (r := 19) (Or.inl rfl) rfl dX0_go_133 ?_
                  have jn16 : W p l e R s m args below meth c H locs 0 0 Q (F0 m 144 ls [.int (iI (if J1 6 = 0 then 0 else 1)), .int (iI 3), .ref (ad (1000 + t.toNat))]) := by
                    obtain ⟨wz, h_wz⟩ : ∃ x : Int, x = if J1 6 = 0 then 0 else 1 := ⟨_, rfl⟩
                    refine W.eq (g2 := F0 m 144 ls [.int (iI wz), .int (iI 3), .ref (ad (1000 + t.toNat))]) (by subst h_wz; rfl) ?_
                    have e_wz : wz = J1 6 := by rw [h_wz]; split <;> omega
                    refine cs_kp (k := t) (z := 3) (v := wz) hCK hG hS (by omega) (by decide) dX0_go_144 (fun H locs hG hS => ?_)
                    have hG : CW D E A ad nv I F (shpS S 19 J1 (t + 1) gr1) (va_up (shpY (va_up Y1 (1000 + t.toNat) (updZ (Y1 (1000 + t.toNat)) 4 (I 24))) 21 22 23 24 G1 ga1 gb1) (1000 + t.toNat) (updZ (updZ (updZ (updZ ((shpY (va_up Y1 (1000 + t.toNat) (updZ (Y1 (1000 + t.toNat)) 4 (I 24))) 21 22 23 24 G1 ga1 gb1) (1000 + t.toNat)) 0 (if J 4 ≠ 0 then 0 else J1 0)) 1 (if J 4 ≠ 0 then 0 else J1 1)) 2 fz) 3 wz)) L H := by
                      have eY : va_up (shpY (va_up Y1 (1000 + t.toNat) (updZ (Y1 (1000 + t.toNat)) 4 (I 24))) 21 22 23 24 G1 ga1 gb1) (1000 + t.toNat) (updZ (updZ (updZ (updZ ((shpY (va_up Y1 (1000 + t.toNat) (updZ (Y1 (1000 + t.toNat)) 4 (I 24))) 21 22 23 24 G1 ga1 gb1) (1000 + t.toNat)) 0 (if J 4 ≠ 0 then 0 else J1 0)) 1 (if J 4 ≠ 0 then 0 else J1 1)) 2 fz) 3 wz) = va_up (va_up (shpY (va_up Y1 (1000 + t.toNat) (updZ (Y1 (1000 + t.toNat)) 4 (I 24))) 21 22 23 24 G1 ga1 gb1) (1000 + t.toNat) (updZ (updZ (updZ ((shpY (va_up Y1 (1000 + t.toNat) (updZ (Y1 (1000 + t.toNat)) 4 (I 24))) 21 22 23 24 G1 ga1 gb1) (1000 + t.toNat)) 0 (if J 4 ≠ 0 then 0 else J1 0)) 1 (if J 4 ≠ 0 then 0 else J1 1)) 2 fz)) (1000 + t.toNat) (updZ ((va_up (shpY (va_up Y1 (1000 + t.toNat) (updZ (Y1 (1000 + t.toNat)) 4 (I 24))) 21 22 23 24 G1 ga1 gb1) (1000 + t.toNat) (updZ (updZ (updZ ((shpY (va_up Y1 (1000 + t.toNat) (updZ (Y1 (1000 + t.toNat)) 4 (I 24))) 21 22 23 24 G1 ga1 gb1) (1000 + t.toNat)) 0 (if J 4 ≠ 0 then 0 else J1 0)) 1 (if J 4 ≠ 0 then 0 else J1 1)) 2 fz)) (1000 + t.toNat)) 3 wz) := by
                        funext i
                        by_cases h1 : i = 1000 + t.toNat
                        · subst h1; simp [va_up]
                        · simp [va_up, h1]
                      rw [eY]; exact hG
                    refine lv_iinc (v := iI (k + 1)) (lv' := [(2, .int (iI (k + 1))), (4, .int (iI (J 4))), (3, .ref (ad (1000 + t.toNat))), (0, .ref (ad 0)), (1, .int (iI nn))]) hx hb dX0_go_145 hl (k := 2) rfl (iI_add _ _) (by decide) rfl (fun ls hl => ?_)
                    refine lv_goto (tgt := 16) hx hb dX0_go_148 (by decide) ?_
                    have e9 : (shpY (va_up Y1 (1000 + t.toNat) (updZ (Y1 (1000 + t.toNat)) 4 (I 24))) 21 22 23 24 G1 ga1 gb1) (1000 + t.toNat) = updZ (Y1 (1000 + t.toNat)) 4 (I 24) := by rw [shpY_far _ _ _ _ (by omega)]; exact va_up_s _ _ _
                    obtain ⟨Y2, hY2⟩ : ∃ x : Nat → Int → Int, x = va_up (shpY (va_up Y1 (1000 + t.toNat) (updZ (Y1 (1000 + t.toNat)) 4 (I 24))) 21 22 23 24 G1 ga1 gb1) (1000 + t.toNat) (updZ (updZ (updZ (updZ ((shpY (va_up Y1 (1000 + t.toNat) (updZ (Y1 (1000 + t.toNat)) 4 (I 24))) 21 22 23 24 G1 ga1 gb1) (1000 + t.toNat)) 0 (if J 4 ≠ 0 then 0 else J1 0)) 1 (if J 4 ≠ 0 then 0 else J1 1)) 2 fz) 3 wz) := ⟨_, rfl⟩
                    rw [← hY2] at hG
                    have hrow : Y2 (1000 + t.toNat) = updZ (updZ (updZ (updZ ((shpY (va_up Y1 (1000 + t.toNat) (updZ (Y1 (1000 + t.toNat)) 4 (I 24))) 21 22 23 24 G1 ga1 gb1) (1000 + t.toNat)) 0 (if J 4 ≠ 0 then 0 else J1 0)) 1 (if J 4 ≠ 0 then 0 else J1 1)) 2 fz) 3 wz := by rw [hY2]; exact va_up_s _ _ _
                    rw [e9] at hrow
                    have hoth : ∀ r, r ≠ 1000 + t.toNat → Y2 r = (shpY (va_up Y1 (1000 + t.toNat) (updZ (Y1 (1000 + t.toNat)) 4 (I 24))) 21 22 23 24 G1 ga1 gb1) r := fun r hr => by rw [hY2]; exact va_up_ne _ _ hr
                    exact ih3 (k + 1) (shpS S 19 J1 (t + 1) gr1) Y2 (by omega) (by omega) (by omega) (⟨t + 1, J1, G1, gK I K t J J1, gr1, rfl, ⟨(hoth 21 (n1000 _ (by decide))).trans rfl, (hoth 24 (n1000 _ (by decide))).trans rfl, (hoth 23 (n1000 _ (by decide))).trans rfl, (hoth 22 (n1000 _ (by decide))).trans rfl⟩, by rw [← hRu, goN_s I F J G K (by omega) (by omega), show nn - (k + 1) = nn - k - 1 by omega, eJ1, eG1], by omega, by rw [eg1]; exact hgb, by rw [eJ1, eG1]; exact gsh2, keptOK_step hKp ht.1 (by rw [hrow]; simp [updZ]) (by rw [hrow]; simp [updZ]) (by rw [hrow, ← e_fz]; simp [updZ]) (by rw [hrow, ← e_wz]; simp [updZ]) (by rw [hrow]; simp [updZ]) (fun r h0 h1 h2 => by rw [hoth r h2, shpY_far _ _ _ _ (by omega)]; exact va_up_ne _ _ h2), fun r n2 n3 n21 n22 n23 n24 hr => by rw [hoth r (by omega)]; unfold shpY; rw [if_neg n21, if_neg n24, if_neg n23, if_neg n22, if_neg n3, if_neg n2, va_up_ne _ _ (show r ≠ 1000 + t.toNat by omega)]; exact hfar r n2 n3 n21 n22 n23 n24 hr⟩) _ _ _ hG hS (lv_sub hl [0, 3, 4] rfl)
                  refine r_if_eq (tgt := 143) hx hb dX0_go_136 (by decide) (by omega) (fun c17 => ?_) (fun c17 => ?_)
                  · refine r_iconst hx hb dX0_go_143 ?_
                    rw [if_pos (by omega)] at jn16
                    exact jn16
                  · refine r_iconst hx hb dX0_go_139 ?_
                    refine lv_goto (tgt := 144) hx hb dX0_go_140 (by decide) ?_
                    rw [if_neg (by omega)] at jn16
                    exact jn16
                refine r_if_eq (tgt := 119) hx hb dX0_go_112 (by decide) (by omega) (fun c18 => ?_) (fun c18 => ?_)
                · refine lv_aload_n hx hb dX0_go_119 rfl (lv_at hl 3 rfl) ?_
                  refine cg_X0_68 hCK hG dX0_go_120 ?_
                  refine cg_X0_286 (v := J1 5) hCK hE hG (r := 19) (Or.inl rfl) rfl dX0_go_123 ?_
                  rw [if_neg (by omega)] at jn15
                  exact jn15
                · refine r_iconst hx hb dX0_go_115 ?_
                  refine lv_goto (tgt := 126) hx hb dX0_go_116 (by decide) ?_
                  rw [if_pos (by omega)] at jn15
                  exact jn15
              refine r_if_eq (tgt := 100) hx hb dX0_go_93 (by decide) (by omega) (fun c19 => ?_) (fun c19 => ?_)
              · refine lv_aload_n hx hb dX0_go_100 rfl (lv_at hl 3 rfl) ?_
                refine cg_X0_68 hCK hG dX0_go_101 ?_
                refine cg_X0_283 (v := J1 1) hCK hE hG (r := 19) (Or.inl rfl) rfl dX0_go_104 ?_
                rw [if_neg (by omega)] at jn14
                exact jn14
              · refine r_iconst hx hb dX0_go_96 ?_
                refine lv_goto (tgt := 107) hx hb dX0_go_97 (by decide) ?_
                rw [if_pos (by omega)] at jn14
                exact jn14
            refine r_if_eq (tgt := 81) hx hb dX0_go_74 (by decide) (by omega) (fun c20 => ?_) (fun c20 => ?_)
            · refine lv_aload_n hx hb dX0_go_81 rfl (lv_at hl 3 rfl) ?_
              refine cg_X0_68 hCK hG dX0_go_82 ?_
              refine cg_X0_280 (v := J1 0) hCK hE hG (r := 19) (Or.inl rfl) rfl dX0_go_85 ?_
              rw [if_neg (by omega)] at jn13
              exact jn13
            · refine r_iconst hx hb dX0_go_77 ?_
              refine lv_goto (tgt := 88) hx hb dX0_go_78 (by decide) ?_
              rw [if_pos (by omega)] at jn13
              exact jn13
    exact loop16_2 ((nn - 0 : Int).toNat + 1) 0 S Y (by omega) (by omega) (by omega) (⟨S 19 7, shJ S 19, shG Y 21 22 23 24, K0, S 19 10, (shpS_self _ _).symm, ⟨rfl, rfl, rfl, rfl⟩, by rw [Int.sub_zero], ht0, bgr0, gsh0, hK0, fun _ _ _ _ _ _ _ _ => rfl⟩) _ _ _ hG hS (lv_sub hl [0, 1, 2] rfl)
  · refine r_iconst hx hb dX0_go_12 ?_
    exact c_iret hCK hQ hr hlk hG hS dX0_go_13 (⟨rfl, rfl, Or.inr ⟨by omega, rfl, rfl, rfl⟩⟩)
