/-! PLAIN WORDS: ticks that go on, ticks that are tried -/
/-- what a tick reads of the settings -/
def cfgEq (I : Nat → Int) (F : Nat → Int → Int) (I1 : Nat → Int) (F1 : Nat → Int → Int) : Prop := (I 1 = I1 1 ∧ I 4 = I1 4 ∧ I 10 = I1 10 ∧ I 15 = I1 15 ∧ I 18 = I1 18 ∧ I 22 = I1 22 ∧ I 23 = I1 23 ∧ I 24 = I1 24) ∧ F 2 = F1 2 ∧ F 3 = F1 3 ∧ F 5 = F1 5 ∧ F 6 = F1 6 ∧ F 7 = F1 7 ∧ F 8 = F1 8 ∧ F 9 = F1 9 ∧ F 11 = F1 11 ∧ F 12 = F1 12 ∧ F 13 = F1 13 ∧ F 14 = F1 14 ∧ F 16 = F1 16 ∧ F 17 = F1 17 ∧ F 19 = F1 19 ∧ F 20 = F1 20 ∧ F 21 = F1 21 ∧ F 62 = F1 62 ∧ F 63 = F1 63 ∧ F 64 = F1 64 ∧ F 65 = F1 65
section CG
variable {I I1 : Nat → Int} {F F1 : Nat → Int → Int}
theorem tLv_cg (h : cfgEq I F I1 F1) (sl : Int) : tLv I F sl = tLv I1 F1 sl := by
  obtain ⟨⟨i1, i4, i10, i15, i18, i22, i23, i24⟩, f2, f3, f5, f6, f7, f8, f9, f11, f12, f13, f14, f16, f17, f19, f20, f21, f62, f63, f64, f65⟩ := h
  simp only [tLv, i1, f2, f3, i4, f9, f5, i10, f14]
theorem tPl_cg (h : cfgEq I F I1 F1) (J : Nat → Int) (G : Nat → Int → Int) : tPl I F J G = tPl I1 F1 J G := by
  obtain ⟨⟨i1, i4, i10, i15, i18, i22, i23, i24⟩, f2, f3, f5, f6, f7, f8, f9, f11, f12, f13, f14, f16, f17, f19, f20, f21, f62, f63, f64, f65⟩ := h
  simp only [tPl, i4, f9, f8]
theorem tDn_cg (h : cfgEq I F I1 F1) (pl : Int → Int) (sl : Int) : tDn I F pl sl = tDn I1 F1 pl sl := by
  obtain ⟨⟨i1, i4, i10, i15, i18, i22, i23, i24⟩, f2, f3, f5, f6, f7, f8, f9, f11, f12, f13, f14, f16, f17, f19, f20, f21, f62, f63, f64, f65⟩ := h
  simp only [tDn, i4, f9, f5, f7, i10, f14, f13, f11, f12]
theorem tAr_cg (h : cfgEq I F I1 F1) (pl : Int → Int) (sl : Int) : tAr I F pl sl = tAr I1 F1 pl sl := by
  have e1 := tLv_cg h sl
  have e2 := tDn_cg h pl sl
  obtain ⟨⟨i1, i4, i10, i15, i18, i22, i23, i24⟩, f2, f3, f5, f6, f7, f8, f9, f11, f12, f13, f14, f16, f17, f19, f20, f21, f62, f63, f64, f65⟩ := h
  simp only [tAr, e1, e2, i1, f2, f3, i4, f9, f5, i10, f14]
theorem soZ_cg (h : cfgEq I F I1 F1) (c : Int) (nm : Int → Int) : soZ F c nm = soZ F1 c nm := by
  obtain ⟨⟨i1, i4, i10, i15, i18, i22, i23, i24⟩, f2, f3, f5, f6, f7, f8, f9, f11, f12, f13, f14, f16, f17, f19, f20, f21, f62, f63, f64, f65⟩ := h
  simp only [soZ, f62, f63, f64, f65]
theorem nmS_cg (h : cfgEq I F I1 F1) (sl sp t si : Int) (wet pl : Int → Int) : nmS I F sl sp t si wet pl = nmS I1 F1 sl sp t si wet pl := by
  obtain ⟨⟨i1, i4, i10, i15, i18, i22, i23, i24⟩, f2, f3, f5, f6, f7, f8, f9, f11, f12, f13, f14, f16, f17, f19, f20, f21, f62, f63, f64, f65⟩ := h
  funext i
  simp only [nmS, i18, f19, f20, f21, i15, f9, f6, i4]
theorem tPa_cg (h : cfgEq I F I1 F1) (t fi : Int) (J : Nat → Int) (G : Nat → Int → Int) : tPa I F t fi J G = tPa I1 F1 t fi J G := by
  have e1 := tPl_cg h J G
  have e2 := fun pl => tAr_cg h pl (J 0)
  have e3 := soZ_cg h
  have e4 := nmS_cg h
  obtain ⟨⟨i1, i4, i10, i15, i18, i22, i23, i24⟩, f2, f3, f5, f6, f7, f8, f9, f11, f12, f13, f14, f16, f17, f19, f20, f21, f62, f63, f64, f65⟩ := h
  funext i
  simp only [tPa, tP3, e1, e2, e3, e4, i22, i18, f19, f20, f21, i23]
theorem tSp_cg (h : cfgEq I F I1 F1) (t fi : Int) (J : Nat → Int) (G : Nat → Int → Int) : tFo I F t fi J G = tFo I1 F1 t fi J G ∧ tSp I F t fi J G = tSp I1 F1 t fi J G := by
  have e1 := tPa_cg h t fi J G
  have e2 : tFo I F t fi J G = tFo I1 F1 t fi J G := by simp only [tFo, e1]
  obtain ⟨⟨i1, i4, i10, i15, i18, i22, i23, i24⟩, -⟩ := h
  exact ⟨e2, by simp only [tSp, e2, i24]⟩
theorem tSl_cg (h : cfgEq I F I1 F1) (t fi : Int) (J : Nat → Int) (G : Nat → Int → Int) : tSl I F t fi J G = tSl I1 F1 t fi J G := by simp only [tSl, (tSp_cg h t fi J G).2]
theorem tSi_cg (h : cfgEq I F I1 F1) (t fi : Int) (J : Nat → Int) (G : Nat → Int → Int) : tSi I F t fi J G = tSi I1 F1 t fi J G := by simp only [tSi, (tSp_cg h t fi J G).2]
theorem tWo_cg (h : cfgEq I F I1 F1) (t fi : Int) (J : Nat → Int) (G : Nat → Int → Int) : tWo I F t fi J G = tWo I1 F1 t fi J G := by simp only [tWo, (tSp_cg h t fi J G).2, tSl_cg h, tSi_cg h, tPl_cg h, nmS_cg h, soZ_cg h]
theorem isWetS_cg (h : cfgEq I F I1 F1) (sl : Int) : isWetS I F sl = isWetS I1 F1 sl := by
  have e1 := tLv_cg h sl
  obtain ⟨-, f2, f3, f5, f6, f7, f8, f9, f11, f12, f13, f14, f16, f17, f19⟩ := h
  funext k
  simp only [isWetS, e1, f16, f17]
theorem tkJ_cg (h : cfgEq I F I1 F1) (t fi : Int) (J : Nat → Int) (G : Nat → Int → Int) : tkJ I F t fi J G = tkJ I1 F1 t fi J G := by
  funext k
  simp only [tkJ, tkJ2, tLv_cg h, tSl_cg h, (tSp_cg h t fi J G).2, (tSp_cg h t fi J G).1, tSi_cg h, tWo_cg h]
theorem tkG_cg (h : cfgEq I F I1 F1) (t fi : Int) (J : Nat → Int) (G : Nat → Int → Int) : tkG I F t fi J G = tkG I1 F1 t fi J G := by
  have i15 := h.1.2.2.2.1
  funext k
  simp only [tkG, tkG2, tLv_cg h, tPl_cg h, tSl_cg h, isWetS_cg h, tPa_cg h, i15]
end CG
/-- what a tick reads of the ship's arrays: places, wet -/
theorem tk_G {I : Nat → Int} {F : Nat → Int → Int} {t fi : Int} {J : Nat → Int} {G G1 : Nat → Int → Int} (h0 : G 0 = G1 0) (h1 : G 1 = G1 1) : tkJ I F t fi J G = tkJ I F t fi J G1 ∧ tkG I F t fi J G 0 = tkG I F t fi J G1 0 ∧ tkG I F t fi J G 1 = tkG I F t fi J G1 1 := by
  have e1 : tPl I F J G = tPl I F J G1 := by simp only [tPl, h0]
  have e2 : ∀ i, i = 0 ∨ i = 1 ∨ i = 2 ∨ i = 3 → tPa I F t fi J G i = tPa I F t fi J G1 i := by
    intro i hi
    rcases hi with rfl | rfl | rfl | rfl <;> simp [tPa, tP3, e1, h1]
  have e3 : tFo I F t fi J G = tFo I F t fi J G1 := by
    unfold tFo
    rw [e2 0 (by decide), e2 1 (by decide), e2 2 (by decide), e2 3 (by decide)]
  have e4 : tSp I F t fi J G = tSp I F t fi J G1 := by simp only [tSp, e3]
  have e5 : tSl I F t fi J G = tSl I F t fi J G1 := by simp only [tSl, e4]
  have e6 : tSi I F t fi J G = tSi I F t fi J G1 := by simp only [tSi, e4]
  have e7 : tWo I F t fi J G = tWo I F t fi J G1 := by simp only [tWo, e4, e5, e6, e1, h1]
  refine ⟨?_, ?_, ?_⟩
  · funext k
    simp only [tkJ, tkJ2, e3, e4, e5, e6, e7]
  · simp [tkG, tkG2, e1, h0]
  · simp [tkG, tkG2, e5, h1]
theorem tkJ_still {I : Nat → Int} {F : Nat → Int → Int} {t fi : Int} {J : Nat → Int} {G : Nat → Int → Int} (h : tkJ I F t fi J G 6 = 0) : tkJ I F t fi J G 0 = J 0 := by
  unfold tkJ at h ⊢
  by_cases c1 : J 4 ≠ 0
  · rw [if_pos c1]
    rfl
  · rw [if_neg c1] at h ⊢
    by_cases c2 : tLv I F (J 0) = -2147483648
    · rw [if_pos c2]
      rfl
    · rw [if_neg c2] at h
      exact absurd h (show ¬ (1 : Int) = 0 by decide)
def lotJ (F : Nat → Int → Int) (lot : Int) : Nat → Int := fun k => if k = 0 then F 28 lot else if k = 1 then F 29 lot else if k = 2 then F 30 lot else if k = 3 then F 31 lot else if k = 4 then F 32 lot else 0
def lotG (F : Nat → Int → Int) (lot : Int) : Nat → Int → Int := fun k => if k = 0 then (fun w => F 27 (12 * lot + w)) else if k = 1 then (fun w => F 33 (6 * lot + w)) else if k = 2 then (fun w => F 34 (6 * lot + w)) else if k = 3 then (fun w => F 35 (4 * lot + w)) else fun _ => 0
theorem isLot_of (F : Nat → Int → Int) (lot : Int) : isLot F lot (lotJ F lot) (lotG F lot) := ⟨rfl, rfl, rfl, rfl, rfl, fun _ _ _ => rfl, fun _ _ _ => rfl, fun _ _ _ => rfl, fun _ _ _ => rfl⟩
/-! ticks that go on: time, ship, what is kept (36 slope, 37 speed, 38 force, 39 inert, 40 whole) -/
def gK (I : Nat → Int) (K : Nat → Int → Int) (t : Int) (J J1 : Nat → Int) : Nat → Int → Int := fun k => if k = 36 then updZ (K 36) t (if J 4 ≠ 0 then 0 else J1 0) else if k = 37 then updZ (K 37) t (if J 4 ≠ 0 then 0 else J1 1) else if k = 38 then updZ (K 38) t (J1 5) else if k = 39 then updZ (K 39) t (I 24) else if k = 40 then updZ (K 40) t (J1 6) else K k
abbrev GoR : Type := Int × (Nat → Int) × (Nat → Int → Int) × (Nat → Int → Int)
def goN (I : Nat → Int) (F : Nat → Int → Int) : Nat → Int → (Nat → Int) → (Nat → Int → Int) → (Nat → Int → Int) → GoR
  | 0, t, J, G, K => (t, J, G, K)
  | n + 1, t, J, G, K => if t < 600 then goN I F n (t + 1) (tkJ I F t (I 25) J G) (tkG I F t (I 25) J G) (gK I K t J (tkJ I F t (I 25) J G)) else (t, J, G, K)
theorem goN_s (I : Nat → Int) (F : Nat → Int → Int) {n t : Int} (J : Nat → Int) (G K : Nat → Int → Int) (hn : 0 < n) (ht : t < 600) : goN I F n.toNat t J G K = goN I F (n - 1).toNat (t + 1) (tkJ I F t (I 25) J G) (tkG I F t (I 25) J G) (gK I K t J (tkJ I F t (I 25) J G)) := by
  have e : n.toNat = (n - 1).toNat + 1 := by omega
  rw [e]
  show (if t < 600 then _ else _) = _
  rw [if_pos ht]
theorem goN_e (I : Nat → Int) (F : Nat → Int → Int) {n t : Int} (J : Nat → Int) (G K : Nat → Int → Int) (h : n ≤ 0 ∨ 600 ≤ t) : goN I F n.toNat t J G K = (t, J, G, K) := by
  by_cases hn : n ≤ 0
  · have e : n.toNat = 0 := by omega
    rw [e]
    rfl
  · have e : n.toNat = (n - 1).toNat + 1 := by omega
    rw [e]
    show (if t < 600 then _ else _) = _
    rw [if_neg (by omega)]
def setGo (F : Nat → Int → Int) (J : Nat → Int) (G K : Nat → Int → Int) (g g1 : Int → Int) : Nat → Int → Int := fun k => if k = 36 then K 36 else if k = 37 then K 37 else if k = 38 then K 38 else if k = 39 then K 39 else if k = 40 then K 40 else setLot F 0 J G g g1 k
theorem fedT_fedT (f b b1 : Int → Int) (s n : Int) : fedT (fedT f s b n) s b1 n = fedT f s b1 n := by
  funext z
  unfold fedT
  split <;> rfl
theorem setLot_setGo (F : Nat → Int → Int) (J J1 : Nat → Int) (G G1 K : Nat → Int → Int) (g g1 g2 g3 : Int → Int) : setLot (setGo F J G K g g1) 0 J1 G1 g2 g3 = setGo F J1 G1 K g2 g3 := by
  refine setLot_ext ?_ ?_ ?_ ?_ ?_ ?_ ?_ ?_ ?_ rfl rfl ?_
  · exact fedT_fedT (F 27) (G 0) (G1 0) (12 * 0) 12
  · exact updZ_updZ (F 28) 0 (J 0) (J1 0)
  · exact updZ_updZ (F 29) 0 (J 1) (J1 1)
  · exact updZ_updZ (F 30) 0 (J 2) (J1 2)
  · exact updZ_updZ (F 31) 0 (J 3) (J1 3)
  · exact updZ_updZ (F 32) 0 (J 4) (J1 4)
  · exact fedT_fedT (F 33) (G 1) (G1 1) (6 * 0) 6
  · exact fedT_fedT (F 34) (G 2) (G1 2) (6 * 0) 6
  · exact fedT_fedT (F 35) (G 3) (G1 3) (4 * 0) 4
  · intro k n27 n28 n29 n30 n31 n32 n33 n34 n35 n71 n72
    simp [setGo, setLot, n27, n28, n29, n30, n31, n32, n33, n34, n35, n71, n72]
theorem isLot_go (F : Nat → Int → Int) (J : Nat → Int) (G K : Nat → Int → Int) (g g1 : Int → Int) : isLot (setGo F J G K g g1) 0 J G := isLot_set F 0 J G g g1
theorem setGo_self {F : Nat → Int → Int} {J : Nat → Int} {G : Nat → Int → Int} (h : isLot F 0 J G) : setGo F J G F (F 71) (F 72) = F := by
  funext k
  unfold setGo
  by_cases h36 : k = 36
  · rw [if_pos h36, h36]
  rw [if_neg h36]
  by_cases h37 : k = 37
  · rw [if_pos h37, h37]
  rw [if_neg h37]
  by_cases h38 : k = 38
  · rw [if_pos h38, h38]
  rw [if_neg h38]
  by_cases h39 : k = 39
  · rw [if_pos h39, h39]
  rw [if_neg h39]
  by_cases h40 : k = 40
  · rw [if_pos h40, h40]
  rw [if_neg h40, setLot_self h]
/-! ticks that are tried -/
def trN (I : Nat → Int) (F : Nat → Int → Int) (fi : Int) : Nat → Int → (Nat → Int) → (Nat → Int → Int) → Int → (Nat → Int) × Int
  | 0, _, J, _, gr => (J, gr)
  | n + 1, t, J, G, gr => if t < 600 then trN I F fi n (t + 1) (tkJ I F t fi J G) (tkG I F t fi J G) (if tkJ I F t fi J G 6 ≠ 0 ∧ gr < absI (tkJ I F t fi J G 0) then absI (tkJ I F t fi J G 0) else gr) else (J, gr)
theorem trN_s (I : Nat → Int) (F : Nat → Int → Int) (fi : Int) {n t : Int} (J : Nat → Int) (G : Nat → Int → Int) (gr : Int) (hn : 0 < n) (ht : t < 600) : trN I F fi n.toNat t J G gr = trN I F fi (n - 1).toNat (t + 1) (tkJ I F t fi J G) (tkG I F t fi J G) (if tkJ I F t fi J G 6 ≠ 0 ∧ gr < absI (tkJ I F t fi J G 0) then absI (tkJ I F t fi J G 0) else gr) := by
  have e : n.toNat = (n - 1).toNat + 1 := by omega
  rw [e]
  show (if t < 600 then _ else _) = _
  rw [if_pos ht]
theorem trN_e (I : Nat → Int) (F : Nat → Int → Int) (fi : Int) {n t : Int} (J : Nat → Int) (G : Nat → Int → Int) (gr : Int) (h : n ≤ 0 ∨ 600 ≤ t) : trN I F fi n.toNat t J G gr = (J, gr) := by
  by_cases hn : n ≤ 0
  · have e : n.toNat = 0 := by omega
    rw [e]
    rfl
  · have e : n.toNat = (n - 1).toNat + 1 := by omega
    rw [e]
    show (if t < 600 then _ else _) = _
    rw [if_neg (by omega)]
theorem trN_cg {I I1 : Nat → Int} {F F1 : Nat → Int → Int} (h : cfgEq I F I1 F1) (fi : Int) : ∀ (n : Nat) (t : Int) (J : Nat → Int) (G : Nat → Int → Int) (gr : Int), trN I F fi n t J G gr = trN I1 F1 fi n t J G gr
  | 0, _, _, _, _ => rfl
  | n + 1, t, J, G, gr => by
    show (if t < 600 then _ else _) = (if t < 600 then _ else _)
    rw [tkJ_cg h, tkG_cg h, trN_cg h fi n]
theorem trN_G {I : Nat → Int} {F : Nat → Int → Int} {fi : Int} : ∀ (n : Nat) (t : Int) (J : Nat → Int) (G G1 : Nat → Int → Int) (gr : Int), G 0 = G1 0 → G 1 = G1 1 → trN I F fi n t J G gr = trN I F fi n t J G1 gr
  | 0, _, _, _, _, _, _, _ => rfl
  | n + 1, t, J, G, G1, gr, h0, h1 => by
    obtain ⟨e1, e2, e3⟩ := tk_G (I := I) (F := F) (t := t) (fi := fi) (J := J) h0 h1
    show (if t < 600 then _ else _) = (if t < 600 then _ else _)
    rw [e1, trN_G n (t + 1) _ _ _ _ e2 e3]
theorem absI_bd {v : Int} (h : -80 ≤ v ∧ v ≤ 80) : 0 ≤ absI v ∧ absI v ≤ 80 := by
  unfold absI
  split <;> omega
theorem trN_bd {I : Nat → Int} {F : Nat → Int → Int} {fi : Int} (hw : 0 ≤ I 4 ∧ I 4 ≤ 12) (hm : 0 ≤ I 15 ∧ I 15 ≤ 6) : ∀ (n : Nat) (t m : Int) (J : Nat → Int) (G : Nat → Int → Int) (gr : Int), 0 ≤ m → gShip m J G → (0 ≤ gr ∧ gr ≤ 80) → 0 ≤ (trN I F fi n t J G gr).2 ∧ (trN I F fi n t J G gr).2 ≤ 80
  | 0, _, _, _, _, _, _, _, h => h
  | n + 1, t, m, J, G, gr, hm0, hs, h => by
    show 0 ≤ (if t < 600 then _ else (J, gr) : (Nat → Int) × Int).2 ∧ (if t < 600 then _ else (J, gr) : (Nat → Int) × Int).2 ≤ 80
    have hs1 := gShip_tick (F := F) (t := t) (fi := fi) hm0 hw hm hs
    have b := absI_bd hs1.1
    split
    · refine trN_bd hw hm n _ (m + 1) _ _ _ (by omega) hs1 ?_
      split <;> omega
    · exact h
/-- which fins are best: and the least greatest slope -/
def stN (gr : Int → Int) : Nat → Int × Int
  | 0 => (0, 81)
  | f + 1 => if (stN gr f).2 ≤ gr f then stN gr f else ((f : Int), gr f)
theorem stN_s (gr : Int → Int) {f : Int} (h : 0 ≤ f) : stN gr (f + 1).toNat = if (stN gr f.toNat).2 ≤ gr f then stN gr f.toNat else (f, gr f) := by
  have e : (f + 1).toNat = f.toNat + 1 := by omega
  have e2 : ((f.toNat : Nat) : Int) = f := by omega
  rw [e]
  show (if (stN gr f.toNat).2 ≤ gr ((f.toNat : Nat) : Int) then _ else (((f.toNat : Nat) : Int), gr ((f.toNat : Nat) : Int))) = _
  rw [e2]
def trR (I : Nat → Int) (F : Nat → Int → Int) (fi n : Int) : (Nat → Int) × Int := trN I F fi n.toNat (I 26) (lotJ F 0) (lotG F 0) (absI (F 28 0))
def triedS (I : Nat → Int) (F : Nat → Int → Int) (n wh : Int) : Int := if (0 ≤ n ∧ n ≤ 120) ∧ (0 ≤ wh ∧ wh ≤ 2) then (if wh = 0 then (trR I F (I 25) n).2 else if wh = 1 then (trR I F (I 25) n).1 2 else (trR I F (I 25) n).1 3) else -1
def stillS (I : Nat → Int) (F : Nat → Int → Int) (n : Int) : Int := if 0 ≤ n ∧ n ≤ 120 then (stN (fun f => (trR I F f n).2) 10).1 else -1
def holdsS (I : Nat → Int) (F : Nat → Int → Int) (cz : Int) : Int := if (0 ≤ cz ∧ cz ≤ 1) ∧ I 26 < 600 then soZ F cz (nmS I F (F 28 0) (F 29 0) (I 26) (F 30 0) (lotG F 0 1) (lotG F 0 0)) else -1
