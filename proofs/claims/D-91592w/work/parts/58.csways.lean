/-! THE COMPONENT: a ship sways -/
set_option maxRecDepth 100000

def shJ (S : Nat → Nat → Int) (o : Nat) : Nat → Int := fun k => if k = 0 then S o 4 else if k = 1 then S o 5 else if k = 2 then S o 8 else if k = 3 then S o 9 else if k = 4 then S o 11 else if k = 5 then S o 6 else S o 12
def shG (Y : Nat → Int → Int) (pl pa wd wt : Nat) : Nat → Int → Int := fun k => if k = 0 then Y pl else if k = 1 then Y wt else if k = 2 then Y wd else Y pa
def shpS (S : Nat → Nat → Int) (o : Nat) (J : Nat → Int) (t g : Int) : Nat → Nat → Int := fun r k => if r = o then (if k = 4 then J 0 else if k = 5 then J 1 else if k = 8 then J 2 else if k = 9 then J 3 else if k = 11 then J 4 else if k = 6 then J 5 else if k = 12 then J 6 else if k = 7 then t else if k = 10 then g else S r k) else S r k
def shpY (Y : Nat → Int → Int) (pl pa wd wt : Nat) (G : Nat → Int → Int) (g g1 : Int → Int) : Nat → Int → Int := fun r => if r = pl then G 0 else if r = wt then G 1 else if r = wd then G 2 else if r = pa then G 3 else if r = 3 then g else if r = 2 then g1 else Y r
theorem shpS_ext {S S1 : Nat → Nat → Int} {o : Nat} {J : Nat → Int} {t g : Int} (h4 : J 0 = S1 o 4) (h5 : J 1 = S1 o 5) (h8 : J 2 = S1 o 8) (h9 : J 3 = S1 o 9) (h11 : J 4 = S1 o 11) (h6 : J 5 = S1 o 6) (h12 : J 6 = S1 o 12) (h7 : t = S1 o 7) (h10 : g = S1 o 10) (ho : ∀ k, k < 4 ∨ 12 < k → S o k = S1 o k) (hr : ∀ r, r ≠ o → S r = S1 r) : shpS S o J t g = S1 := by
  funext r k
  unfold shpS
  by_cases c : r = o
  · subst c
    rw [if_pos rfl]
    by_cases e4 : k = 4
    · rw [if_pos e4, e4, h4]
    rw [if_neg e4]
    by_cases e5 : k = 5
    · rw [if_pos e5, e5, h5]
    rw [if_neg e5]
    by_cases e8 : k = 8
    · rw [if_pos e8, e8, h8]
    rw [if_neg e8]
    by_cases e9 : k = 9
    · rw [if_pos e9, e9, h9]
    rw [if_neg e9]
    by_cases e11 : k = 11
    · rw [if_pos e11, e11, h11]
    rw [if_neg e11]
    by_cases e6 : k = 6
    · rw [if_pos e6, e6, h6]
    rw [if_neg e6]
    by_cases e12 : k = 12
    · rw [if_pos e12, e12, h12]
    rw [if_neg e12]
    by_cases e7 : k = 7
    · rw [if_pos e7, e7, h7]
    rw [if_neg e7]
    by_cases e10 : k = 10
    · rw [if_pos e10, e10, h10]
    rw [if_neg e10]
    exact ho k (by omega)
  · rw [if_neg c, hr r c]
theorem shpY_ext {Y Y1 : Nat → Int → Int} {pl pa wd wt : Nat} {G : Nat → Int → Int} {g g1 : Int → Int} (h0 : G 0 = Y1 pl) (h1 : G 1 = Y1 wt) (h2 : G 2 = Y1 wd) (h3 : G 3 = Y1 pa) (hg : g = Y1 3) (hg1 : g1 = Y1 2) (ho : ∀ r, r ≠ pl → r ≠ wt → r ≠ wd → r ≠ pa → r ≠ 3 → r ≠ 2 → Y r = Y1 r) : shpY Y pl pa wd wt G g g1 = Y1 := by
  funext r
  unfold shpY
  by_cases e0 : r = pl
  · rw [if_pos e0, e0, h0]
  rw [if_neg e0]
  by_cases e1 : r = wt
  · rw [if_pos e1, e1, h1]
  rw [if_neg e1]
  by_cases e2 : r = wd
  · rw [if_pos e2, e2, h2]
  rw [if_neg e2]
  by_cases e3 : r = pa
  · rw [if_pos e3, e3, h3]
  rw [if_neg e3]
  by_cases e4 : r = 3
  · rw [if_pos e4, e4, hg]
  rw [if_neg e4]
  by_cases e5 : r = 2
  · rw [if_pos e5, e5, hg1]
  rw [if_neg e5]
  exact ho r e0 e1 e2 e3 e4 e5
theorem tk_J {I : Nat → Int} {F : Nat → Int → Int} {t fi : Int} {J J1 : Nat → Int} {G : Nat → Int → Int} (h0 : J 0 = J1 0) (h1 : J 1 = J1 1) (h2 : J 2 = J1 2) (h3 : J 3 = J1 3) (h4 : J 4 = J1 4) : (∀ k, k < 7 → tkJ I F t fi J G k = tkJ I F t fi J1 G k) ∧ tkG I F t fi J G = tkG I F t fi J1 G := by
  have e1 : tPl I F J G = tPl I F J1 G := by simp only [tPl, h0]
  have e2 : tPa I F t fi J G = tPa I F t fi J1 G := by
    funext i
    simp only [tPa, tP3, e1, h0, h1, h2]
  have e3 : tFo I F t fi J G = tFo I F t fi J1 G := by simp only [tFo, e2]
  have e4 : tSp I F t fi J G = tSp I F t fi J1 G := by simp only [tSp, e3, h1]
  have e5 : tSl I F t fi J G = tSl I F t fi J1 G := by simp only [tSl, e4, h0]
  have e6 : tSi I F t fi J G = tSi I F t fi J1 G := by simp only [tSi, e4, h2]
  have e7 : tWo I F t fi J G = tWo I F t fi J1 G := by simp only [tWo, e4, e5, e6, e1, h3]
  refine ⟨?_, ?_⟩
  · intro k hk
    have hc : k = 0 ∨ k = 1 ∨ k = 2 ∨ k = 3 ∨ k = 4 ∨ k = 5 ∨ k = 6 := by omega
    rcases hc with rfl | rfl | rfl | rfl | rfl | rfl | rfl <;> simp [tkJ, tkJ2, e3, e4, e5, e6, e7, h0, h1, h2, h3, h4]
  · funext k
    simp only [tkG, tkG2, e1, e2, e5, h0, h4]
theorem ov_eq (v : Int) : (if absI v ≤ 80 then (0 : Int) else 1) = if v = clampZ v 80 then 0 else 1 := by
  unfold absI clampZ
  repeat' split
  all_goals omega
theorem dX1_sways_0 : decode cX1_sways 0 = .ok (.aload_n 0, 1) := by decide +kernel
theorem dX1_sways_1 : decode cX1_sways 1 = .ok (.invokevirtual 158, 3) := by decide +kernel
theorem dX1_sways_4 : decode cX1_sways 4 = .ok (.aload_n 0, 1) := by decide +kernel
theorem dX1_sways_5 : decode cX1_sways 5 = .ok (.getfield 3, 3) := by decide +kernel
theorem dX1_sways_8 : decode cX1_sways 8 = .ok (.aload_n 0, 1) := by decide +kernel
theorem dX1_sways_9 : decode cX1_sways 9 = .ok (.getfield 35, 3) := by decide +kernel
theorem dX1_sways_12 : decode cX1_sways 12 = .ok (.invokevirtual 142, 3) := by decide +kernel
theorem dX1_sways_15 : decode cX1_sways 15 = .ok (.istore_n 1, 1) := by decide +kernel
theorem dX1_sways_16 : decode cX1_sways 16 = .ok (.iload_n 1, 1) := by decide +kernel
theorem dX1_sways_17 : decode cX1_sways 17 = .ok (.ldc 145, 2) := by decide +kernel
theorem dX1_sways_19 : decode cX1_sways 19 = .ok (.if_icmp .ne 9, 3) := by decide +kernel
theorem dX1_sways_22 : decode cX1_sways 22 = .ok (.aload_n 0, 1) := by decide +kernel
theorem dX1_sways_23 : decode cX1_sways 23 = .ok (.iconst 1, 1) := by decide +kernel
theorem dX1_sways_24 : decode cX1_sways 24 = .ok (.putfield 51, 3) := by decide +kernel
theorem dX1_sways_27 : decode cX1_sways 27 = .ok (.return_, 1) := by decide +kernel
theorem dX1_sways_28 : decode cX1_sways 28 = .ok (.aload_n 0, 1) := by decide +kernel
theorem dX1_sways_29 : decode cX1_sways 29 = .ok (.iconst 1, 1) := by decide +kernel
theorem dX1_sways_30 : decode cX1_sways 30 = .ok (.putfield 152, 3) := by decide +kernel
theorem dX1_sways_33 : decode cX1_sways 33 = .ok (.aload_n 0, 1) := by decide +kernel
theorem dX1_sways_34 : decode cX1_sways 34 = .ok (.iload_n 1, 1) := by decide +kernel
theorem dX1_sways_35 : decode cX1_sways 35 = .ok (.invokevirtual 161, 3) := by decide +kernel
theorem dX1_sways_38 : decode cX1_sways 38 = .ok (.aload_n 0, 1) := by decide +kernel
theorem dX1_sways_39 : decode cX1_sways 39 = .ok (.aload_n 0, 1) := by decide +kernel
theorem dX1_sways_40 : decode cX1_sways 40 = .ok (.getfield 39, 3) := by decide +kernel
theorem dX1_sways_43 : decode cX1_sways 43 = .ok (.aload_n 0, 1) := by decide +kernel
theorem dX1_sways_44 : decode cX1_sways 44 = .ok (.getfield 139, 3) := by decide +kernel
theorem dX1_sways_47 : decode cX1_sways 47 = .ok (.aload_n 0, 1) := by decide +kernel
theorem dX1_sways_48 : decode cX1_sways 48 = .ok (.getfield 3, 3) := by decide +kernel
theorem dX1_sways_51 : decode cX1_sways 51 = .ok (.getfield 165, 3) := by decide +kernel
theorem dX1_sways_54 : decode cX1_sways 54 = .ok (.invokestatic 168, 3) := by decide +kernel
theorem dX1_sways_57 : decode cX1_sways 57 = .ok (.putfield 39, 3) := by decide +kernel
theorem dX1_sways_60 : decode cX1_sways 60 = .ok (.aload_n 0, 1) := by decide +kernel
theorem dX1_sways_61 : decode cX1_sways 61 = .ok (.aload_n 0, 1) := by decide +kernel
theorem dX1_sways_62 : decode cX1_sways 62 = .ok (.getfield 35, 3) := by decide +kernel
theorem dX1_sways_65 : decode cX1_sways 65 = .ok (.aload_n 0, 1) := by decide +kernel
theorem dX1_sways_66 : decode cX1_sways 66 = .ok (.getfield 39, 3) := by decide +kernel
theorem dX1_sways_69 : decode cX1_sways 69 = .ok (.iadd, 1) := by decide +kernel
theorem dX1_sways_70 : decode cX1_sways 70 = .ok (.invokestatic 55, 3) := by decide +kernel
theorem dX1_sways_73 : decode cX1_sways 73 = .ok (.bipush 80, 2) := by decide +kernel
theorem dX1_sways_75 : decode cX1_sways 75 = .ok (.if_icmp .le 7, 3) := by decide +kernel
theorem dX1_sways_78 : decode cX1_sways 78 = .ok (.iconst 1, 1) := by decide +kernel
theorem dX1_sways_79 : decode cX1_sways 79 = .ok (.goto 4, 3) := by decide +kernel
theorem dX1_sways_82 : decode cX1_sways 82 = .ok (.iconst 0, 1) := by decide +kernel
theorem dX1_sways_83 : decode cX1_sways 83 = .ok (.putfield 51, 3) := by decide +kernel
theorem dX1_sways_86 : decode cX1_sways 86 = .ok (.aload_n 0, 1) := by decide +kernel
theorem dX1_sways_87 : decode cX1_sways 87 = .ok (.aload_n 0, 1) := by decide +kernel
theorem dX1_sways_88 : decode cX1_sways 88 = .ok (.getfield 35, 3) := by decide +kernel
theorem dX1_sways_91 : decode cX1_sways 91 = .ok (.aload_n 0, 1) := by decide +kernel
theorem dX1_sways_92 : decode cX1_sways 92 = .ok (.getfield 39, 3) := by decide +kernel
theorem dX1_sways_95 : decode cX1_sways 95 = .ok (.iadd, 1) := by decide +kernel
theorem dX1_sways_96 : decode cX1_sways 96 = .ok (.i2l, 1) := by decide +kernel
theorem dX1_sways_97 : decode cX1_sways 97 = .ok (.bipush 80, 2) := by decide +kernel
theorem dX1_sways_99 : decode cX1_sways 99 = .ok (.invokestatic 135, 3) := by decide +kernel
theorem dX1_sways_102 : decode cX1_sways 102 = .ok (.putfield 35, 3) := by decide +kernel
theorem dX1_sways_105 : decode cX1_sways 105 = .ok (.aload_n 0, 1) := by decide +kernel
theorem dX1_sways_106 : decode cX1_sways 106 = .ok (.aload_n 0, 1) := by decide +kernel
theorem dX1_sways_107 : decode cX1_sways 107 = .ok (.getfield 61, 3) := by decide +kernel
theorem dX1_sways_110 : decode cX1_sways 110 = .ok (.aload_n 0, 1) := by decide +kernel
theorem dX1_sways_111 : decode cX1_sways 111 = .ok (.getfield 35, 3) := by decide +kernel
theorem dX1_sways_114 : decode cX1_sways 114 = .ok (.invokestatic 55, 3) := by decide +kernel
theorem dX1_sways_117 : decode cX1_sways 117 = .ok (.invokestatic 115, 3) := by decide +kernel
theorem dX1_sways_120 : decode cX1_sways 120 = .ok (.putfield 61, 3) := by decide +kernel
theorem dX1_sways_123 : decode cX1_sways 123 = .ok (.aload_n 0, 1) := by decide +kernel
theorem dX1_sways_124 : decode cX1_sways 124 = .ok (.dup, 1) := by decide +kernel
theorem dX1_sways_125 : decode cX1_sways 125 = .ok (.getfield 45, 3) := by decide +kernel
theorem dX1_sways_128 : decode cX1_sways 128 = .ok (.iconst 0, 1) := by decide +kernel
theorem dX1_sways_129 : decode cX1_sways 129 = .ok (.aload_n 0, 1) := by decide +kernel
theorem dX1_sways_130 : decode cX1_sways 130 = .ok (.getfield 39, 3) := by decide +kernel
theorem dX1_sways_133 : decode cX1_sways 133 = .ok (.invokestatic 55, 3) := by decide +kernel
theorem dX1_sways_136 : decode cX1_sways 136 = .ok (.iconst 4, 1) := by decide +kernel
theorem dX1_sways_137 : decode cX1_sways 137 = .ok (.isub, 1) := by decide +kernel
theorem dX1_sways_138 : decode cX1_sways 138 = .ok (.invokestatic 115, 3) := by decide +kernel
theorem dX1_sways_141 : decode cX1_sways 141 = .ok (.iadd, 1) := by decide +kernel
theorem dX1_sways_142 : decode cX1_sways 142 = .ok (.putfield 45, 3) := by decide +kernel
theorem dX1_sways_145 : decode cX1_sways 145 = .ok (.aload_n 0, 1) := by decide +kernel
theorem dX1_sways_146 : decode cX1_sways 146 = .ok (.iconst 0, 1) := by decide +kernel
theorem dX1_sways_147 : decode cX1_sways 147 = .ok (.invokevirtual 128, 3) := by decide +kernel
theorem dX1_sways_150 : decode cX1_sways 150 = .ok (.ifCond .eq 13, 3) := by decide +kernel
theorem dX1_sways_153 : decode cX1_sways 153 = .ok (.aload_n 0, 1) := by decide +kernel
theorem dX1_sways_154 : decode cX1_sways 154 = .ok (.dup, 1) := by decide +kernel
theorem dX1_sways_155 : decode cX1_sways 155 = .ok (.getfield 48, 3) := by decide +kernel
theorem dX1_sways_158 : decode cX1_sways 158 = .ok (.iconst 1, 1) := by decide +kernel
theorem dX1_sways_159 : decode cX1_sways 159 = .ok (.iadd, 1) := by decide +kernel
theorem dX1_sways_160 : decode cX1_sways 160 = .ok (.putfield 48, 3) := by decide +kernel
theorem dX1_sways_163 : decode cX1_sways 163 = .ok (.aload_n 0, 1) := by decide +kernel
theorem dX1_sways_164 : decode cX1_sways 164 = .ok (.invokevirtual 172, 3) := by decide +kernel
theorem dX1_sways_167 : decode cX1_sways 167 = .ok (.return_, 1) := by decide +kernel
set_option maxHeartbeats 4000000 in
theorem csways_19 (l : Launch) (adK adV st : Nat → Nat) (D : va_G) (E : Nat → ClassId) (A : Nat → Prop) (ad nv : Nat → Nat) (I : Nat → Int) (F : Nat → Int → Int) (S : Nat → Nat → Int) (Y : Nat → Int → Int) (L : Nat → Nat) (hn : cOK nv I L) (gh0 : gHull I F) (gl0 : gLoad I F) (gm0 : gMark I F) (gs0 : gSea I F) (gt0 : gSet I) (gr0 : gRule F) (hru : S 0 2 = 0 → F 64 0 = -1 ∧ F 64 1 = -1) (gsh : gShip 3000 (shJ S 19) (shG Y 21 22 23 24)) (ht : 0 ≤ S 19 7 ∧ S 19 7 ≤ 1000) (bgr : 0 ≤ S 19 10 ∧ S 19 10 ≤ 80) (z6 : S 19 6 = 0) (z11 : S 19 11 = 0) (z12 : S 19 12 = 0) : CM l yX1_sways cX1_sways 2 none (mrm 7) adK adV st D E A ad nv [.ref (ad 19)] I F S Y L (CQv D E A ad nv L (fun I1 F1 S1 Y1 => I = I1 ∧ F = F1 ∧ shpS S 19 (tkJ I F (S 19 7) (I 25) (shJ S 19) (shG Y 21 22 23 24)) (S 19 7) (if tkJ I F (S 19 7) (I 25) (shJ S 19) (shG Y 21 22 23 24) 6 ≠ 0 ∧ S 19 10 < absI (tkJ I F (S 19 7) (I 25) (shJ S 19) (shG Y 21 22 23 24) 0) then absI (tkJ I F (S 19 7) (I 25) (shJ S 19) (shG Y 21 22 23 24) 0) else S 19 10) = S1 ∧ ∃ g g1, shpY Y 21 22 23 24 (tkG I F (S 19 7) (I 25) (shJ S 19) (shG Y 21 22 23 24)) g g1 = Y1)) := by
  refine c_start (by decide) rfl (Nat.le_of_ble_eq_true rfl) ?_
  intro p e R s m args below meth c ls Q hR hQ hCK hml hr hlk hG hS hE hl
  have hx := hCK.1
  have hb := hCK.2.1
  have hown := hCK.2.2.1
  have hts := hCK.2.2.2.1
  have hK := hCK.2.2.2.2
  have hl : lv_has ls 2 [(0, .ref (ad 19))] := hl
  obtain ⟨i1, a2, a3⟩ := id gh0
  obtain ⟨i4, a5, a6, a7, a8, a9, i10, a11, a12, a13, a14, a14h⟩ := id gl0
  have hhv := heavyS_bd (lost := F 9) i4 i10 a5 a14
  have hpb : ∀ sl y, 0 ≤ pushS (I 1) (F 2) (F 3) sl y ∧ pushS (I 1) (F 2) (F 3) sl y ≤ 21600 := fun sl y => pushS_bd sl y i1 a2 a3
  have hub : ∀ sl y, -80 ≤ sl ∧ sl ≤ 80 → -69552000 ≤ upS (I 1) (F 2) (F 3) sl y ∧ upS (I 1) (F 2) (F 3) sl y ≤ 69552000 := fun sl y q => upS_bd y q i1 a2 a3
  obtain ⟨t22, t23, t24, t25⟩ := id gt0
  obtain ⟨b28, b29, b30, b31, b32, gp0, gw0⟩ := gsh
  have hb30t : 0 ≤ S 19 8 ∧ S 19 8 ≤ 26 * 3000 := b30
  have b28 : -80 ≤ S 19 4 ∧ S 19 4 ≤ 80 := b28
  have b29 : -30 ≤ S 19 5 ∧ S 19 5 ≤ 30 := b29
  have b30 : 0 ≤ S 19 8 ∧ S 19 8 ≤ 100000 := by have b30 : 0 ≤ S 19 8 ∧ S 19 8 ≤ 26 * 3000 := b30; exact ⟨b30.1, Int.le_trans b30.2 (by decide)⟩
  have b30t : S 19 8 ≤ 78000 := hb30t.2
  have b31 : 0 ≤ S 19 9 ∧ S 19 9 ≤ 3000 := b31
  have gp0 : Bd (Y 21) 12 (-19) 19 := gp0
  have gw0 : Bd (Y 24) 6 0 1 := gw0
  have c1 : ¬ ((shJ S 19) 4 ≠ 0) := fun q => q z11
  refine lv_aload_n hx hb dX1_sways_0 rfl (lv_at hl 0 rfl) ?_
  refine c_callv (c_run (n := 0) (C0 := RX1) (b := ad 19) (rest := []) (as := []) hCK hE hml (cslides_19 l adK adV st D E A ad nv I F S Y L hn gl0 b28 gp0) (g_rec (r := 19) (ci := 1) hK hG (Or.inl (by omega)) rfl (cC_s (Or.inl rfl))) q855 q857 qs25 q72 q858 (by decide +kernel) ⟨rfl, rfl⟩ hR (by decide) ⟨Nat.zero_le _, Nat.zero_le _⟩ hG hS rfl hl.1 rfl (Nat.le_of_ble_eq_true rfl) dX1_sways_1) hS (fun I2 F3 S4 Y5 H locs hp6 hG hS => ?_)
  obtain ⟨rfl, rfl, rfl, rfl⟩ := hp6
  have hG : CW D E A ad nv I F S (va_up Y 21 (fedT (Y 21) 0 (slidS (F 9) (F 8) (S 19 4) (Y 21)) (I 4))) L H := hG
  obtain ⟨T0, h_T0⟩ : ∃ x : Int → Int, x = fedT (Y 21) 0 (slidS (F 9) (F 8) (S 19 4) (Y 21)) (I 4) := ⟨_, rfl⟩
  rw [← h_T0] at hG
  have e_T0 : T0 = tPl I F (shJ S 19) (shG Y 21 22 23 24) := h_T0
  have hpl : Bd T0 12 (-19) 19 := by rw [e_T0]; exact tPl_bd (F := F) (J := (shJ S 19)) (G := (shG Y 21 22 23 24)) i4 gp0
  refine lv_aload_n hx hb dX1_sways_4 rfl (lv_at hl 0 rfl) ?_
  refine cg_X1_3 hCK hG (r := 19) (Or.inl rfl) dX1_sways_5 ?_
  refine lv_aload_n hx hb dX1_sways_8 rfl (lv_at hl 0 rfl) ?_
  refine cg_X1_35 (v := S 19 4) hCK hG (r := 19) (Or.inl rfl) rfl dX1_sways_9 ?_
  refine s_calli (j_runVN (n := 1) (C0 := RX0) (b := ad 0) (rest := []) (as := [.int (iI (S 19 4))]) hx hb hml hown hts hE (clevel l adK adV st D E A ad nv I F S (va_up Y 21 T0) L (S 19 4) (by omega) hn gh0 gl0) GB.blind (GB.at hK hG hE hS) (g_rec (r := 0) (ci := 0) hK hG (Or.inl (by decide)) rfl cC_0) q864 q749 qs18 q68 q750 (by decide +kernel) ⟨rfl, rfl⟩ hR (by decide) ⟨Nat.zero_le _, Nat.zero_le _⟩ rfl hl.1 rfl (Nat.le_of_ble_eq_true rfl) dX1_sways_12) ?_
  obtain ⟨lv, h_lv⟩ : ∃ x : Int, x = lvF (I 1) (F 2) (F 3) (heavyS (I 4) (F 9) (F 5) (I 10) (F 14)) (S 19 4) := ⟨_, rfl⟩
  refine W.eq (g2 := F0 m 15 ls [.int (iI lv)]) (by subst h_lv; rfl) ?_
  have hlo : lv = -2147483648 ∨ (-2000 ≤ lv ∧ lv ≤ 4000) := by rw [h_lv]; exact levelS_or _ _
  have etl : tLv I F (S 19 4) = lv := h_lv.symm
  refine lv_istore_n (lv' := [(1, .int (iI lv)), (0, .ref (ad 19))]) hx hb dX1_sways_15 rfl hl (by decide) rfl (fun ls hl => ?_)
  refine lv_iload_n hx hb dX1_sways_16 rfl (lv_at hl 0 rfl) ?_
  refine r_ldc hx hb (-2147483648) hown (hts _ q865) (by decide) dX1_sways_17 ?_
  refine r_icmp_ne (tgt := 28) hx hb dX1_sways_19 (by decide) (by omega) (by decide) (fun c2 => ?_) (fun c2 => ?_)
  · have cv2 : lvF (I 1) (F 2) (F 3) (heavyS (I 4) (F 9) (F 5) (I 10) (F 14)) (S 19 4) ≠ -2147483648 := by rw [← h_lv]; exact c2
    have hin := levelS_in (hv := heavyS (I 4) (F 9) (F 5) (I 10) (F 14)) (f := pushS (I 1) (F 2) (F 3) (S 19 4)) cv2
    have hpp : 0 < pushS (I 1) (F 2) (F 3) (S 19 4) lv := by have q1 := hin.2.1; have q2 := hin.2.2; rw [h_lv]; unfold lvF; omega
    have hlv : -2000 ≤ lv ∧ lv ≤ 4000 := by omega
    have c2 : ¬ tLv I F ((shJ S 19) 0) = -2147483648 := cv2
    have eJ : tkJ I F (S 19 7) (I 25) (shJ S 19) (shG Y 21 22 23 24) = tkJ2 I F (S 19 7) (I 25) (shJ S 19) (shG Y 21 22 23 24) := by funext k; unfold tkJ; rw [if_neg c1, if_neg c2]
    have eG : tkG I F (S 19 7) (I 25) (shJ S 19) (shG Y 21 22 23 24) = tkG2 I F (S 19 7) (I 25) (shJ S 19) (shG Y 21 22 23 24) := by funext k; unfold tkG; rw [if_neg c1, if_neg c2]
    refine lv_aload_n hx hb dX1_sways_28 rfl (lv_at hl 1 rfl) ?_
    refine r_iconst hx hb dX1_sways_29 ?_
    refine cp_X1_152 (r := 19) hCK hG hS (Or.inl rfl) (by decide) dX1_sways_30 (fun H locs hG hS => ?_)
    refine lv_aload_n hx hb dX1_sways_33 rfl (lv_at hl 1 rfl) ?_
    refine lv_iload_n hx hb dX1_sways_34 rfl (lv_at hl 0 rfl) ?_
    refine c_callv (c_run (n := 1) (C0 := RX1) (b := ad 19) (rest := []) (as := [.int (iI lv)]) hCK hE hml (cpushes_19 l adK adV st D E A ad nv I F (up2 S 19 12 1) (va_up Y 21 T0) L lv hlv hpp hn gh0 gs0 gl0 gm0 gt0 gr0 hru b28 b29 ht b30 hpl gw0) (g_rec (r := 19) (ci := 1) hK hG (Or.inl (by omega)) rfl (cC_s (Or.inl rfl))) q866 q868 qs26 q72 q869 (by decide +kernel) ⟨rfl, rfl⟩ hR (by decide) ⟨Nat.zero_le _, Nat.zero_le _⟩ hG hS rfl hl.1 rfl (Nat.le_of_ble_eq_true rfl) dX1_sways_35) hS (fun I9 F10 S11 Y12 H locs hp13 hG hS => ?_)
    obtain ⟨rfl, rfl, rfl, gp6, gq6, rfl⟩ := hp13
    have hG : CW D E A ad nv I F (up2 (up2 S 19 12 1) 19 6 (clampZ (((-(armS (upS (I 1) (F 2) (F 3) (S 19 4) lv) (heavyS (I 4) (F 9) (F 5) (I 10) (F 14)) (pushS (I 1) (F 2) (F 3) (S 19 4) lv) ((downS (I 4) (F 9) (F 5) T0 (F 7) (I 10) (F 14) (F 13) (F 11) (F 12)) (S 19 4)))).tdiv (I 22)) + (seaS (I 18) (F 19) (F 20) (F 21) (S 19 7)) + ((-((S 19 5) * I 23)).tdiv 10) + (if soZ F 1 (nmS I F (S 19 4) (S 19 5) (S 19 7) (S 19 8) (Y 24) T0) = 0 then 0 else (-((S 19 5) * I 25)).tdiv 4)) 1000)) (va_up (va_up (va_up (va_up Y 21 T0) 3 gp6) 2 gq6) 22 (updZ (updZ (updZ (updZ (Y 22) 0 ((-(armS (upS (I 1) (F 2) (F 3) (S 19 4) lv) (heavyS (I 4) (F 9) (F 5) (I 10) (F 14)) (pushS (I 1) (F 2) (F 3) (S 19 4) lv) ((downS (I 4) (F 9) (F 5) T0 (F 7) (I 10) (F 14) (F 13) (F 11) (F 12)) (S 19 4)))).tdiv (I 22))) 1 (seaS (I 18) (F 19) (F 20) (F 21) (S 19 7))) 2 ((-((S 19 5) * I 23)).tdiv 10)) 3 (if soZ F 1 (nmS I F (S 19 4) (S 19 5) (S 19 7) (S 19 8) (Y 24) T0) = 0 then 0 else (-((S 19 5) * I 25)).tdiv 4))) L H := hG
    obtain ⟨fo, h_fo⟩ : ∃ x : Int, x = clampZ (((-(armS (upS (I 1) (F 2) (F 3) (S 19 4) lv) (heavyS (I 4) (F 9) (F 5) (I 10) (F 14)) (pushS (I 1) (F 2) (F 3) (S 19 4) lv) ((downS (I 4) (F 9) (F 5) T0 (F 7) (I 10) (F 14) (F 13) (F 11) (F 12)) (S 19 4)))).tdiv (I 22)) + (seaS (I 18) (F 19) (F 20) (F 21) (S 19 7)) + ((-((S 19 5) * I 23)).tdiv 10) + (if soZ F 1 (nmS I F (S 19 4) (S 19 5) (S 19 7) (S 19 8) (Y 24) T0) = 0 then 0 else (-((S 19 5) * I 25)).tdiv 4)) 1000 := ⟨_, rfl⟩
    obtain ⟨pa, h_pa⟩ : ∃ x : Int → Int, x = updZ (updZ (updZ (updZ (Y 22) 0 ((-(armS (upS (I 1) (F 2) (F 3) (S 19 4) lv) (heavyS (I 4) (F 9) (F 5) (I 10) (F 14)) (pushS (I 1) (F 2) (F 3) (S 19 4) lv) ((downS (I 4) (F 9) (F 5) T0 (F 7) (I 10) (F 14) (F 13) (F 11) (F 12)) (S 19 4)))).tdiv (I 22))) 1 (seaS (I 18) (F 19) (F 20) (F 21) (S 19 7))) 2 ((-((S 19 5) * I 23)).tdiv 10)) 3 (if soZ F 1 (nmS I F (S 19 4) (S 19 5) (S 19 7) (S 19 8) (Y 24) T0) = 0 then 0 else (-((S 19 5) * I 25)).tdiv 4) := ⟨_, rfl⟩
    rw [← h_fo, ← h_pa] at hG
    have e_fo : fo = tFo I F (S 19 7) (I 25) (shJ S 19) (shG Y 21 22 23 24) := by rw [h_fo, h_lv, h_T0]; rfl
    have e_pa : pa = tPa I F (S 19 7) (I 25) (shJ S 19) (shG Y 21 22 23 24) := by
      rw [h_pa, h_lv, h_T0]
      funext i
      by_cases q3 : i = 3
      · subst q3; rw [updZ_s]; rfl
      rw [updZ_n q3]
      by_cases q2 : i = 2
      · subst q2; rw [updZ_s]; rfl
      rw [updZ_n q2]
      by_cases q1 : i = 1
      · subst q1; rw [updZ_s]; rfl
      rw [updZ_n q1]
      by_cases q0 : i = 0
      · subst q0; rw [updZ_s]; rfl
      rw [updZ_n q0]
      unfold tPa
      rw [if_neg q0, if_neg q1, if_neg q2, if_neg q3]
      rfl
    have b_fo : -1000 ≤ fo ∧ fo ≤ 1000 := by rw [h_fo]; exact clampZ_bd (by decide)
    clear h_fo h_pa
    have q4 := tdiv_bd (a := fo) (b := I 24) (M := 1000) (by omega) (by omega)
    refine lv_aload_n hx hb dX1_sways_38 rfl (lv_at hl 1 rfl) ?_
    refine lv_aload_n hx hb dX1_sways_39 rfl (lv_at hl 1 rfl) ?_
    refine cg_X1_39 (v := S 19 5) hCK hG (r := 19) (Or.inl rfl) rfl dX1_sways_40 ?_
    refine lv_aload_n hx hb dX1_sways_43 rfl (lv_at hl 1 rfl) ?_
    refine cg_X1_139 (v := fo) hCK hG (r := 19) (Or.inl rfl) rfl dX1_sways_44 ?_
    refine lv_aload_n hx hb dX1_sways_47 rfl (lv_at hl 1 rfl) ?_
    refine cg_X1_3 hCK hG (r := 19) (Or.inl rfl) dX1_sways_48 ?_
    refine cg_X1_165 (v := I 24) hCK hE hG rfl dX1_sways_51 ?_
    refine s_calli (j_runSN (n := 3) (rest := [.ref (ad 19)]) (as := [.int (iI (S 19 5)), .int (iI fo), .int (iI (I 24))]) hx hb hml hown hts hE ((cfaster l (S 19 5) fo (I 24) (by omega) (by omega) (by omega) (by omega)).jm) (fun _ _ _ _ _ => trivial) (fun _ _ _ => trivial) q905 q906 q68 q907 (by decide +kernel) ⟨rfl, rfl⟩ hR (by decide) ⟨Nat.zero_le _, Nat.zero_le _⟩ rfl hl.1 rfl (Nat.le_of_ble_eq_true rfl) dX1_sways_54) ?_
    obtain ⟨sp2, h_sp2⟩ : ∃ x : Int, x = clampZ ((S 19 5) + fo.tdiv (I 24)) 30 := ⟨_, rfl⟩
    refine W.eq (g2 := F0 m 57 ls [.int (iI sp2), .ref (ad 19)]) (by subst h_sp2; rfl) ?_
    have b_sp2 : -30 ≤ sp2 ∧ sp2 ≤ 30 := by rw [h_sp2]; exact clampZ_bd (by decide)
    have e_sp2 : sp2 = tSp I F (S 19 7) (I 25) (shJ S 19) (shG Y 21 22 23 24) := by rw [h_sp2, e_fo]; rfl
    have b_ax : 0 ≤ absI (S 19 4 + sp2) ∧ absI (S 19 4 + sp2) ≤ 110 := by unfold absI; split <;> omega
    refine cp_X1_39 (r := 19) hCK hG hS (Or.inl rfl) dX1_sways_57 (fun H locs hG hS => ?_)
    refine lv_aload_n hx hb dX1_sways_60 rfl (lv_at hl 1 rfl) ?_
    refine lv_aload_n hx hb dX1_sways_61 rfl (lv_at hl 1 rfl) ?_
    refine cg_X1_35 (v := S 19 4) hCK hG (r := 19) (Or.inl rfl) rfl dX1_sways_62 ?_
    refine lv_aload_n hx hb dX1_sways_65 rfl (lv_at hl 1 rfl) ?_
    refine cg_X1_39 (v := sp2) hCK hG (r := 19) (Or.inl rfl) rfl dX1_sways_66 ?_
    refine r_iadd hx hb dX1_sways_69 ?_
    refine s_calli (j_runS (n := 1) (rest := [.ref (ad 19)]) (as := [.int (iI ((S 19 4) + sp2))]) hx hb hml hown hts ((met_abs l ((S 19 4) + sp2) (by omega)).jm) (fun _ _ _ _ _ => trivial) (fun _ _ _ => trivial) q909 q910 q76 q911 (by decide +kernel) ⟨rfl, rfl⟩ hR (by decide) ⟨Nat.zero_le _, Nat.zero_le _⟩ rfl hl.1 rfl (Nat.le_of_ble_eq_true rfl) dX1_sways_70) ?_
    refine r_bipush hx hb dX1_sways_73 (by decide) ?_
    have jn14 : W p l e R s m args below meth c H locs 0 0 Q (F0 m 83 ls [.int (iI (if absI (S 19 4 + sp2) ≤ 80 then 0 else 1)), .ref (ad 19)]) := by
      obtain ⟨ov, h_ov⟩ : ∃ x : Int, x = if absI (S 19 4 + sp2) ≤ 80 then 0 else 1 := ⟨_, rfl⟩
      refine W.eq (g2 := F0 m 83 ls [.int (iI ov), .ref (ad 19)]) (by subst h_ov; rfl) ?_
      have b_ov : ov = 0 ∨ ov = 1 := by rw [h_ov]; split <;> simp
      have e_ov : ov = if S 19 4 + sp2 = clampZ (S 19 4 + sp2) 80 then 0 else 1 := by rw [h_ov]; exact ov_eq _
      refine cp_X1_51 (r := 19) hCK hG hS (Or.inl rfl) (by omega) dX1_sways_83 (fun H locs hG hS => ?_)
      refine lv_aload_n hx hb dX1_sways_86 rfl (lv_at hl 1 rfl) ?_
      refine lv_aload_n hx hb dX1_sways_87 rfl (lv_at hl 1 rfl) ?_
      refine cg_X1_35 (v := S 19 4) hCK hG (r := 19) (Or.inl rfl) rfl dX1_sways_88 ?_
      refine lv_aload_n hx hb dX1_sways_91 rfl (lv_at hl 1 rfl) ?_
      refine cg_X1_39 (v := sp2) hCK hG (r := 19) (Or.inl rfl) rfl dX1_sways_92 ?_
      refine r_iadd hx hb dX1_sways_95 ?_
      refine r_i2l hx hb dX1_sways_96 (by omega) ?_
      refine r_bipush hx hb dX1_sways_97 (by decide) ?_
      refine s_calli (j_runSN (n := 2) (rest := [.ref (ad 19)]) (as := [.long (iL ((S 19 4) + sp2)), .int (iI 80)]) hx hb hml hown hts hE ((cbrought l ((S 19 4) + sp2) 80 (by omega) (by decide)).jm) (fun _ _ _ _ _ => trivial) (fun _ _ _ => trivial) q900 q901 q68 q902 (by decide +kernel) ⟨rfl, rfl⟩ hR (by decide) ⟨Nat.zero_le _, Nat.zero_le _⟩ rfl hl.1 rfl (Nat.le_of_ble_eq_true rfl) dX1_sways_99) ?_
      obtain ⟨sl2, h_sl2⟩ : ∃ x : Int, x = clampZ ((S 19 4) + sp2) 80 := ⟨_, rfl⟩
      refine W.eq (g2 := F0 m 102 ls [.int (iI sl2), .ref (ad 19)]) (by subst h_sl2; rfl) ?_
      have b_sl2 : -80 ≤ sl2 ∧ sl2 ≤ 80 := by rw [h_sl2]; exact clampZ_bd (by decide)
      have e_sl2 : sl2 = tSl I F (S 19 7) (I 25) (shJ S 19) (shG Y 21 22 23 24) := by rw [h_sl2, e_sp2]; rfl
      have b_as := absI_bd b_sl2
      rw [← h_sl2] at e_ov
      refine cp_X1_35 (r := 19) hCK hG hS (Or.inl rfl) dX1_sways_102 (fun H locs hG hS => ?_)
      refine lv_aload_n hx hb dX1_sways_105 rfl (lv_at hl 1 rfl) ?_
      refine lv_aload_n hx hb dX1_sways_106 rfl (lv_at hl 1 rfl) ?_
      refine cg_X1_61 (v := S 19 10) hCK hG (r := 19) (Or.inl rfl) rfl dX1_sways_107 ?_
      refine lv_aload_n hx hb dX1_sways_110 rfl (lv_at hl 1 rfl) ?_
      refine cg_X1_35 (v := sl2) hCK hG (r := 19) (Or.inl rfl) rfl dX1_sways_111 ?_
      refine s_calli (j_runS (n := 1) (rest := [.int (iI (S 19 10)), .ref (ad 19)]) (as := [.int (iI sl2)]) hx hb hml hown hts ((met_abs l sl2 (by omega)).jm) (fun _ _ _ _ _ => trivial) (fun _ _ _ => trivial) q909 q910 q76 q911 (by decide +kernel) ⟨rfl, rfl⟩ hR (by decide) ⟨Nat.zero_le _, Nat.zero_le _⟩ rfl hl.1 rfl (Nat.le_of_ble_eq_true rfl) dX1_sways_114) ?_
      refine s_calli (j_runS (n := 2) (rest := [.ref (ad 19)]) (as := [.int (iI (S 19 10)), .int (iI (absI sl2))]) hx hb hml hown hts ((met_max l (S 19 10) (absI sl2) (by omega) (by omega)).jm) (fun _ _ _ _ _ => trivial) (fun _ _ _ => trivial) q863 q406 q76 q407 (by decide +kernel) ⟨rfl, rfl⟩ hR (by decide) ⟨Nat.zero_le _, Nat.zero_le _⟩ rfl hl.1 rfl (Nat.le_of_ble_eq_true rfl) dX1_sways_117) ?_
      obtain ⟨gr2, h_gr2⟩ : ∃ x : Int, x = if (S 19 10) < (absI sl2) then (absI sl2) else (S 19 10) := ⟨_, rfl⟩
      refine W.eq (g2 := F0 m 120 ls [.int (iI gr2), .ref (ad 19)]) (by subst h_gr2; rfl) ?_
      have e_gr : gr2 = if S 19 10 < absI sl2 then absI sl2 else S 19 10 := by rw [h_gr2]; repeat (first | omega | split)
      have b_as2 : 0 ≤ absI sp2 ∧ absI sp2 ≤ 30 := by unfold absI; split <;> omega
      refine cp_X1_61 (r := 19) hCK hG hS (Or.inl rfl) dX1_sways_120 (fun H locs hG hS => ?_)
      refine lv_aload_n hx hb dX1_sways_123 rfl (lv_at hl 1 rfl) ?_
      refine lv_dup hx hb dX1_sways_124 rfl ?_
      refine cg_X1_45 (v := S 19 8) hCK hG (r := 19) (Or.inl rfl) rfl dX1_sways_125 ?_
      refine r_iconst hx hb dX1_sways_128 ?_
      refine lv_aload_n hx hb dX1_sways_129 rfl (lv_at hl 1 rfl) ?_
      refine cg_X1_39 (v := sp2) hCK hG (r := 19) (Or.inl rfl) rfl dX1_sways_130 ?_
      refine s_calli (j_runS (n := 1) (rest := [.int (iI 0), .int (iI (S 19 8)), .ref (ad 19)]) (as := [.int (iI sp2)]) hx hb hml hown hts ((met_abs l sp2 (by omega)).jm) (fun _ _ _ _ _ => trivial) (fun _ _ _ => trivial) q909 q910 q76 q911 (by decide +kernel) ⟨rfl, rfl⟩ hR (by decide) ⟨Nat.zero_le _, Nat.zero_le _⟩ rfl hl.1 rfl (Nat.le_of_ble_eq_true rfl) dX1_sways_133) ?_
      refine r_iconst hx hb dX1_sways_136 ?_
      refine r_isub hx hb dX1_sways_137 ?_
      refine s_calli (j_runS (n := 2) (rest := [.int (iI (S 19 8)), .ref (ad 19)]) (as := [.int (iI 0), .int (iI ((absI sp2) - 4))]) hx hb hml hown hts ((met_max l 0 ((absI sp2) - 4) (by decide) (by omega)).jm) (fun _ _ _ _ _ => trivial) (fun _ _ _ => trivial) q863 q406 q76 q407 (by decide +kernel) ⟨rfl, rfl⟩ hR (by decide) ⟨Nat.zero_le _, Nat.zero_le _⟩ rfl hl.1 rfl (Nat.le_of_ble_eq_true rfl) dX1_sways_138) ?_
      refine r_iadd hx hb dX1_sways_141 ?_
      obtain ⟨si2, h_si2⟩ : ∃ x : Int, x = (S 19 8) + (if 0 < ((absI sp2) - 4) then ((absI sp2) - 4) else 0) := ⟨_, rfl⟩
      refine W.eq (g2 := F0 m 142 ls [.int (iI si2), .ref (ad 19)]) (by subst h_si2; rfl) ?_
      have b_si2 : 0 ≤ si2 ∧ si2 ≤ 100000 := by rw [h_si2]; split <;> omega
      have e_si2 : si2 = tSi I F (S 19 7) (I 25) (shJ S 19) (shG Y 21 22 23 24) := by rw [h_si2]; show _ = S 19 8 + (if 4 < absI (tSp I F (S 19 7) (I 25) (shJ S 19) (shG Y 21 22 23 24)) then absI (tSp I F (S 19 7) (I 25) (shJ S 19) (shG Y 21 22 23 24)) - 4 else 0); rw [← e_sp2]; repeat (first | omega | split)
      refine cp_X1_45 (r := 19) hCK hG hS (Or.inl rfl) dX1_sways_142 (fun H locs hG hS => ?_)
      refine lv_aload_n hx hb dX1_sways_145 rfl (lv_at hl 1 rfl) ?_
      refine r_iconst hx hb dX1_sways_146 ?_
      refine c_calli (c_run (n := 1) (C0 := RX1) (b := ad 19) (rest := []) (as := [.int (iI 0)]) hCK hE hml (cholds_19 l adK adV st D E A ad nv I F (up2 (up2 (up2 (up2 (up2 (up2 (up2 S 19 12 1) 19 6 fo) 19 5 sp2) 19 11 ov) 19 4 sl2) 19 10 gr2) 19 8 si2) (va_up (va_up (va_up (va_up Y 21 T0) 3 gp6) 2 gq6) 22 pa) L 0 (by decide) hn gs0 gl0 gm0 gr0 hru b_sl2 b_sp2 ht b_si2 hpl gw0) (g_rec (r := 19) (ci := 1) hK hG (Or.inl (by omega)) rfl (cC_s (Or.inl rfl))) q872 q873 q874 q72 q875 (by decide +kernel) ⟨rfl, rfl⟩ hR (by decide) ⟨Nat.zero_le _, Nat.zero_le _⟩ hG hS rfl hl.1 rfl (Nat.le_of_ble_eq_true rfl) dX1_sways_147) hS (fun z16 I17 F18 S19 Y20 H locs hp21 hG hS => ?_)
      obtain ⟨rfl, rfl, rfl, rfl, gh14, gk14, rfl⟩ := hp21
      have hG : CW D E A ad nv I F (up2 (up2 (up2 (up2 (up2 (up2 (up2 S 19 12 1) 19 6 fo) 19 5 sp2) 19 11 ov) 19 4 sl2) 19 10 gr2) 19 8 si2) (va_up (va_up (va_up (va_up (va_up (va_up Y 21 T0) 3 gp6) 2 gq6) 22 pa) 3 gh14) 2 gk14) L H := hG
      refine W.eq (g2 := F0 m 150 ls [.int (iI (soZ F 0 (nmS I F sl2 sp2 (S 19 7) si2 (Y 24) T0)))]) rfl ?_
      obtain ⟨so0, h_so0⟩ : ∃ x : Int, x = soZ F 0 (nmS I F sl2 sp2 (S 19 7) si2 (Y 24) T0) := ⟨_, rfl⟩
      refine W.eq (g2 := F0 m 150 ls [.int (iI so0)]) (by subst h_so0; rfl) ?_
      have b_so0 : so0 = 0 ∨ so0 = 1 := by rw [h_so0]; exact soZ_01 _ _ _
      have e_wo : tWo I F (S 19 7) (I 25) (shJ S 19) (shG Y 21 22 23 24) = S 19 9 + if so0 = 0 then 0 else 1 := by rw [h_so0, e_sl2, e_sp2, e_si2, e_T0]; rfl
      refine r_if_eq (tgt := 163) hx hb dX1_sways_150 (by decide) (by omega) (fun cw => ?_) (fun cw => ?_)
      · refine lv_aload_n hx hb dX1_sways_163 rfl (lv_at hl 1 rfl) ?_
        refine c_callv (c_run (n := 0) (C0 := RX1) (b := ad 19) (rest := []) (as := []) hCK hE hml (cwets_19 l adK adV st D E A ad nv I F (up2 (up2 (up2 (up2 (up2 (up2 (up2 S 19 12 1) 19 6 fo) 19 5 sp2) 19 11 ov) 19 4 sl2) 19 10 gr2) 19 8 si2) (va_up (va_up (va_up (va_up (va_up (va_up Y 21 T0) 3 gp6) 2 gq6) 22 pa) 3 gh14) 2 gk14) L hn gh0 gl0 gm0 b_sl2 gw0) (g_rec (r := 19) (ci := 1) hK hG (Or.inl (by omega)) rfl (cC_s (Or.inl rfl))) q912 q914 qs28 q72 q915 (by decide +kernel) ⟨rfl, rfl⟩ hR (by decide) ⟨Nat.zero_le _, Nat.zero_le _⟩ hG hS rfl hl.1 rfl (Nat.le_of_ble_eq_true rfl) dX1_sways_164) hS (fun I23 F24 S25 Y26 H locs hp27 hG hS => ?_)
        obtain ⟨rfl, rfl, rfl, rfl⟩ := hp27
        have hG : CW D E A ad nv I F (up2 (up2 (up2 (up2 (up2 (up2 (up2 S 19 12 1) 19 6 fo) 19 5 sp2) 19 11 ov) 19 4 sl2) 19 10 gr2) 19 8 si2) (va_up (va_up (va_up (va_up (va_up (va_up (va_up (va_up Y 21 T0) 3 gp6) 2 gq6) 22 pa) 3 gh14) 2 gk14) 23 (fedT (Y 23) 0 (fun m => if isWetS I F sl2 m = 1 ∧ (Y 24) m = 0 then (Y 23) m + 1 else (Y 23) m) (I 15))) 24 (fedT (Y 24) 0 (isWetS I F sl2) (I 15))) L H := hG
        exact c_vret hCK hQ hr hlk hG hS dX1_sways_167 (⟨rfl, rfl, shpS_ext (by rw [eJ]; exact e_sl2.symm) (by rw [eJ]; exact e_sp2.symm) (by rw [eJ]; exact e_si2.symm) (by rw [eJ]; exact (show tWo I F (S 19 7) (I 25) (shJ S 19) (shG Y 21 22 23 24) = S 19 9 by rw [e_wo, if_pos cw, Int.add_zero])) (by rw [eJ]; show (if S 19 4 + tSp I F (S 19 7) (I 25) (shJ S 19) (shG Y 21 22 23 24) = tSl I F (S 19 7) (I 25) (shJ S 19) (shG Y 21 22 23 24) then (0 : Int) else 1) = ov; rw [← e_sp2, ← e_sl2, e_ov]) (by rw [eJ]; exact e_fo.symm) (by rw [eJ]; rfl) rfl (by rw [eJ]; show (if (1 : Int) ≠ 0 ∧ S 19 10 < absI (tSl I F (S 19 7) (I 25) (shJ S 19) (shG Y 21 22 23 24)) then absI (tSl I F (S 19 7) (I 25) (shJ S 19) (shG Y 21 22 23 24)) else S 19 10) = gr2; rw [← e_sl2, e_gr]; repeat (first | omega | split)) (fun k hk => by simp [up2, va_up, show k ≠ 4 by omega, show k ≠ 5 by omega, show k ≠ 6 by omega, show k ≠ 8 by omega, show k ≠ 9 by omega, show k ≠ 10 by omega, show k ≠ 11 by omega, show k ≠ 12 by omega]) (fun r hr => by repeat rw [up2_ne hr]), ⟨_, _, shpY_ext (by rw [eG]; exact e_T0.symm) (by rw [eG, e_sl2]; rfl) (by rw [eG, e_sl2]; rfl) (by rw [eG]; exact e_pa.symm) rfl rfl (fun r n0 n1 n2 n3 n4 n5 => by simp [va_up, n0, n1, n2, n3, n4, n5])⟩⟩)
      · refine lv_aload_n hx hb dX1_sways_153 rfl (lv_at hl 1 rfl) ?_
        refine lv_dup hx hb dX1_sways_154 rfl ?_
        refine cg_X1_48 (v := S 19 9) hCK hG (r := 19) (Or.inl rfl) rfl dX1_sways_155 ?_
        refine r_iconst hx hb dX1_sways_158 ?_
        refine r_iadd hx hb dX1_sways_159 ?_
        refine cp_X1_48 (r := 19) hCK hG hS (Or.inl rfl) dX1_sways_160 (fun H locs hG hS => ?_)
        refine lv_aload_n hx hb dX1_sways_163 rfl (lv_at hl 1 rfl) ?_
        refine c_callv (c_run (n := 0) (C0 := RX1) (b := ad 19) (rest := []) (as := []) hCK hE hml (cwets_19 l adK adV st D E A ad nv I F (up2 (up2 (up2 (up2 (up2 (up2 (up2 (up2 S 19 12 1) 19 6 fo) 19 5 sp2) 19 11 ov) 19 4 sl2) 19 10 gr2) 19 8 si2) 19 9 ((S 19 9) + 1)) (va_up (va_up (va_up (va_up (va_up (va_up Y 21 T0) 3 gp6) 2 gq6) 22 pa) 3 gh14) 2 gk14) L hn gh0 gl0 gm0 b_sl2 gw0) (g_rec (r := 19) (ci := 1) hK hG (Or.inl (by omega)) rfl (cC_s (Or.inl rfl))) q912 q914 qs28 q72 q915 (by decide +kernel) ⟨rfl, rfl⟩ hR (by decide) ⟨Nat.zero_le _, Nat.zero_le _⟩ hG hS rfl hl.1 rfl (Nat.le_of_ble_eq_true rfl) dX1_sways_164) hS (fun I29 F30 S31 Y32 H locs hp33 hG hS => ?_)
        obtain ⟨rfl, rfl, rfl, rfl⟩ := hp33
        have hG : CW D E A ad nv I F (up2 (up2 (up2 (up2 (up2 (up2 (up2 (up2 S 19 12 1) 19 6 fo) 19 5 sp2) 19 11 ov) 19 4 sl2) 19 10 gr2) 19 8 si2) 19 9 ((S 19 9) + 1)) (va_up (va_up (va_up (va_up (va_up (va_up (va_up (va_up Y 21 T0) 3 gp6) 2 gq6) 22 pa) 3 gh14) 2 gk14) 23 (fedT (Y 23) 0 (fun m => if isWetS I F sl2 m = 1 ∧ (Y 24) m = 0 then (Y 23) m + 1 else (Y 23) m) (I 15))) 24 (fedT (Y 24) 0 (isWetS I F sl2) (I 15))) L H := hG
        exact c_vret hCK hQ hr hlk hG hS dX1_sways_167 (⟨rfl, rfl, shpS_ext (by rw [eJ]; exact e_sl2.symm) (by rw [eJ]; exact e_sp2.symm) (by rw [eJ]; exact e_si2.symm) (by rw [eJ]; exact (show tWo I F (S 19 7) (I 25) (shJ S 19) (shG Y 21 22 23 24) = S 19 9 + 1 by rw [e_wo, if_neg cw])) (by rw [eJ]; show (if S 19 4 + tSp I F (S 19 7) (I 25) (shJ S 19) (shG Y 21 22 23 24) = tSl I F (S 19 7) (I 25) (shJ S 19) (shG Y 21 22 23 24) then (0 : Int) else 1) = ov; rw [← e_sp2, ← e_sl2, e_ov]) (by rw [eJ]; exact e_fo.symm) (by rw [eJ]; rfl) rfl (by rw [eJ]; show (if (1 : Int) ≠ 0 ∧ S 19 10 < absI (tSl I F (S 19 7) (I 25) (shJ S 19) (shG Y 21 22 23 24)) then absI (tSl I F (S 19 7) (I 25) (shJ S 19) (shG Y 21 22 23 24)) else S 19 10) = gr2; rw [← e_sl2, e_gr]; repeat (first | omega | split)) (fun k hk => by simp [up2, va_up, show k ≠ 4 by omega, show k ≠ 5 by omega, show k ≠ 6 by omega, show k ≠ 8 by omega, show k ≠ 9 by omega, show k ≠ 10 by omega, show k ≠ 11 by omega, show k ≠ 12 by omega]) (fun r hr => by repeat rw [up2_ne hr]), ⟨_, _, shpY_ext (by rw [eG]; exact e_T0.symm) (by rw [eG, e_sl2]; rfl) (by rw [eG, e_sl2]; rfl) (by rw [eG]; exact e_pa.symm) rfl rfl (fun r n0 n1 n2 n3 n4 n5 => by simp [va_up, n0, n1, n2, n3, n4, n5])⟩⟩)
    refine r_icmp_le (tgt := 82) hx hb dX1_sways_75 (by decide) (by omega) (by decide) (fun c34 => ?_) (fun c34 => ?_)
    · refine r_iconst hx hb dX1_sways_82 ?_
      rw [if_pos (by omega)] at jn14
      exact jn14
    · refine r_iconst hx hb dX1_sways_78 ?_
      refine lv_goto (tgt := 83) hx hb dX1_sways_79 (by decide) ?_
      rw [if_neg (by omega)] at jn14
      exact jn14
  · have c2 : tLv I F ((shJ S 19) 0) = -2147483648 := etl.trans c2
    have eJ : tkJ I F (S 19 7) (I 25) (shJ S 19) (shG Y 21 22 23 24) = fun k => if k = 5 ∨ k = 6 then 0 else if k = 4 then 1 else (shJ S 19) k := by funext k; unfold tkJ; rw [if_neg c1, if_pos c2]
    have eG : tkG I F (S 19 7) (I 25) (shJ S 19) (shG Y 21 22 23 24) = fun k => if k = 0 then tPl I F (shJ S 19) (shG Y 21 22 23 24) else (shG Y 21 22 23 24) k := by funext k; unfold tkG; rw [if_neg c1, if_pos c2]
    have eg : (if tkJ I F (S 19 7) (I 25) (shJ S 19) (shG Y 21 22 23 24) 6 ≠ 0 ∧ S 19 10 < absI (tkJ I F (S 19 7) (I 25) (shJ S 19) (shG Y 21 22 23 24) 0) then absI (tkJ I F (S 19 7) (I 25) (shJ S 19) (shG Y 21 22 23 24) 0) else S 19 10) = S 19 10 := if_neg (fun q => q.1 (by rw [eJ]; rfl))
    refine lv_aload_n hx hb dX1_sways_22 rfl (lv_at hl 1 rfl) ?_
    refine r_iconst hx hb dX1_sways_23 ?_
    refine cp_X1_51 (r := 19) hCK hG hS (Or.inl rfl) (by decide) dX1_sways_24 (fun H locs hG hS => ?_)
    exact c_vret hCK hQ hr hlk hG hS dX1_sways_27 (⟨rfl, rfl, shpS_ext (by rw [eJ]; rfl) (by rw [eJ]; rfl) (by rw [eJ]; rfl) (by rw [eJ]; rfl) (by rw [eJ]; rfl) (by rw [eJ]; exact z6.symm) (by rw [eJ]; exact z12.symm) rfl eg (fun k hk => by simp [up2, va_up, show k ≠ 11 by omega]) (fun r hr => by rw [up2_ne hr]), ⟨Y 3, Y 2, shpY_ext (by rw [eG]; exact e_T0.symm) (by rw [eG]; rfl) (by rw [eG]; rfl) (by rw [eG]; rfl) rfl rfl (fun r n0 _ _ _ _ _ => by simp [va_up, n0])⟩⟩)
set_option maxHeartbeats 4000000 in
theorem csways_20 (l : Launch) (adK adV st : Nat → Nat) (D : va_G) (E : Nat → ClassId) (A : Nat → Prop) (ad nv : Nat → Nat) (I : Nat → Int) (F : Nat → Int → Int) (S : Nat → Nat → Int) (Y : Nat → Int → Int) (L : Nat → Nat) (hn : cOK nv I L) (gh0 : gHull I F) (gl0 : gLoad I F) (gm0 : gMark I F) (gs0 : gSea I F) (gt0 : gSet I) (gr0 : gRule F) (hru : S 0 2 = 0 → F 64 0 = -1 ∧ F 64 1 = -1) (gsh : gShip 3000 (shJ S 20) (shG Y 25 26 27 28)) (ht : 0 ≤ S 20 7 ∧ S 20 7 ≤ 1000) (bgr : 0 ≤ S 20 10 ∧ S 20 10 ≤ 80) (z6 : S 20 6 = 0) (z11 : S 20 11 = 0) (z12 : S 20 12 = 0) : CM l yX1_sways cX1_sways 2 none (mrm 7) adK adV st D E A ad nv [.ref (ad 20)] I F S Y L (CQv D E A ad nv L (fun I1 F1 S1 Y1 => I = I1 ∧ F = F1 ∧ shpS S 20 (tkJ I F (S 20 7) (I 25) (shJ S 20) (shG Y 25 26 27 28)) (S 20 7) (if tkJ I F (S 20 7) (I 25) (shJ S 20) (shG Y 25 26 27 28) 6 ≠ 0 ∧ S 20 10 < absI (tkJ I F (S 20 7) (I 25) (shJ S 20) (shG Y 25 26 27 28) 0) then absI (tkJ I F (S 20 7) (I 25) (shJ S 20) (shG Y 25 26 27 28) 0) else S 20 10) = S1 ∧ ∃ g g1, shpY Y 25 26 27 28 (tkG I F (S 20 7) (I 25) (shJ S 20) (shG Y 25 26 27 28)) g g1 = Y1)) := by
  refine c_start (by decide) rfl (Nat.le_of_ble_eq_true rfl) ?_
  intro p e R s m args below meth c ls Q hR hQ hCK hml hr hlk hG hS hE hl
  have hx := hCK.1
  have hb := hCK.2.1
  have hown := hCK.2.2.1
  have hts := hCK.2.2.2.1
  have hK := hCK.2.2.2.2
  have hl : lv_has ls 2 [(0, .ref (ad 20))] := hl
  obtain ⟨i1, a2, a3⟩ := id gh0
  obtain ⟨i4, a5, a6, a7, a8, a9, i10, a11, a12, a13, a14, a14h⟩ := id gl0
  have hhv := heavyS_bd (lost := F 9) i4 i10 a5 a14
  have hpb : ∀ sl y, 0 ≤ pushS (I 1) (F 2) (F 3) sl y ∧ pushS (I 1) (F 2) (F 3) sl y ≤ 21600 := fun sl y => pushS_bd sl y i1 a2 a3
  have hub : ∀ sl y, -80 ≤ sl ∧ sl ≤ 80 → -69552000 ≤ upS (I 1) (F 2) (F 3) sl y ∧ upS (I 1) (F 2) (F 3) sl y ≤ 69552000 := fun sl y q => upS_bd y q i1 a2 a3
  obtain ⟨t22, t23, t24, t25⟩ := id gt0
  obtain ⟨b28, b29, b30, b31, b32, gp0, gw0⟩ := gsh
  have hb30t : 0 ≤ S 20 8 ∧ S 20 8 ≤ 26 * 3000 := b30
  have b28 : -80 ≤ S 20 4 ∧ S 20 4 ≤ 80 := b28
  have b29 : -30 ≤ S 20 5 ∧ S 20 5 ≤ 30 := b29
  have b30 : 0 ≤ S 20 8 ∧ S 20 8 ≤ 100000 := by have b30 : 0 ≤ S 20 8 ∧ S 20 8 ≤ 26 * 3000 := b30; exact ⟨b30.1, Int.le_trans b30.2 (by decide)⟩
  have b30t : S 20 8 ≤ 78000 := hb30t.2
  have b31 : 0 ≤ S 20 9 ∧ S 20 9 ≤ 3000 := b31
  have gp0 : Bd (Y 25) 12 (-19) 19 := gp0
  have gw0 : Bd (Y 28) 6 0 1 := gw0
  have c1 : ¬ ((shJ S 20) 4 ≠ 0) := fun q => q z11
  refine lv_aload_n hx hb dX1_sways_0 rfl (lv_at hl 0 rfl) ?_
  refine c_callv (c_run (n := 0) (C0 := RX1) (b := ad 20) (rest := []) (as := []) hCK hE hml (cslides_20 l adK adV st D E A ad nv I F S Y L hn gl0 b28 gp0) (g_rec (r := 20) (ci := 1) hK hG (Or.inl (by omega)) rfl (cC_s (Or.inr rfl))) q855 q857 qs25 q72 q858 (by decide +kernel) ⟨rfl, rfl⟩ hR (by decide) ⟨Nat.zero_le _, Nat.zero_le _⟩ hG hS rfl hl.1 rfl (Nat.le_of_ble_eq_true rfl) dX1_sways_1) hS (fun I2 F3 S4 Y5 H locs hp6 hG hS => ?_)
  obtain ⟨rfl, rfl, rfl, rfl⟩ := hp6
  have hG : CW D E A ad nv I F S (va_up Y 25 (fedT (Y 25) 0 (slidS (F 9) (F 8) (S 20 4) (Y 25)) (I 4))) L H := hG
  obtain ⟨T0, h_T0⟩ : ∃ x : Int → Int, x = fedT (Y 25) 0 (slidS (F 9) (F 8) (S 20 4) (Y 25)) (I 4) := ⟨_, rfl⟩
  rw [← h_T0] at hG
  have e_T0 : T0 = tPl I F (shJ S 20) (shG Y 25 26 27 28) := h_T0
  have hpl : Bd T0 12 (-19) 19 := by rw [e_T0]; exact tPl_bd (F := F) (J := (shJ S 20)) (G := (shG Y 25 26 27 28)) i4 gp0
  refine lv_aload_n hx hb dX1_sways_4 rfl (lv_at hl 0 rfl) ?_
  refine cg_X1_3 hCK hG (r := 20) (Or.inr rfl) dX1_sways_5 ?_
  refine lv_aload_n hx hb dX1_sways_8 rfl (lv_at hl 0 rfl) ?_
  refine cg_X1_35 (v := S 20 4) hCK hG (r := 20) (Or.inr rfl) rfl dX1_sways_9 ?_
  refine s_calli (j_runVN (n := 1) (C0 := RX0) (b := ad 0) (rest := []) (as := [.int (iI (S 20 4))]) hx hb hml hown hts hE (clevel l adK adV st D E A ad nv I F S (va_up Y 25 T0) L (S 20 4) (by omega) hn gh0 gl0) GB.blind (GB.at hK hG hE hS) (g_rec (r := 0) (ci := 0) hK hG (Or.inl (by decide)) rfl cC_0) q864 q749 qs18 q68 q750 (by decide +kernel) ⟨rfl, rfl⟩ hR (by decide) ⟨Nat.zero_le _, Nat.zero_le _⟩ rfl hl.1 rfl (Nat.le_of_ble_eq_true rfl) dX1_sways_12) ?_
  obtain ⟨lv, h_lv⟩ : ∃ x : Int, x = lvF (I 1) (F 2) (F 3) (heavyS (I 4) (F 9) (F 5) (I 10) (F 14)) (S 20 4) := ⟨_, rfl⟩
  refine W.eq (g2 := F0 m 15 ls [.int (iI lv)]) (by subst h_lv; rfl) ?_
  have hlo : lv = -2147483648 ∨ (-2000 ≤ lv ∧ lv ≤ 4000) := by rw [h_lv]; exact levelS_or _ _
  have etl : tLv I F (S 20 4) = lv := h_lv.symm
  refine lv_istore_n (lv' := [(1, .int (iI lv)), (0, .ref (ad 20))]) hx hb dX1_sways_15 rfl hl (by decide) rfl (fun ls hl => ?_)
  refine lv_iload_n hx hb dX1_sways_16 rfl (lv_at hl 0 rfl) ?_
  refine r_ldc hx hb (-2147483648) hown (hts _ q865) (by decide) dX1_sways_17 ?_
  refine r_icmp_ne (tgt := 28) hx hb dX1_sways_19 (by decide) (by omega) (by decide) (fun c2 => ?_) (fun c2 => ?_)
  · have cv2 : lvF (I 1) (F 2) (F 3) (heavyS (I 4) (F 9) (F 5) (I 10) (F 14)) (S 20 4) ≠ -2147483648 := by rw [← h_lv]; exact c2
    have hin := levelS_in (hv := heavyS (I 4) (F 9) (F 5) (I 10) (F 14)) (f := pushS (I 1) (F 2) (F 3) (S 20 4)) cv2
    have hpp : 0 < pushS (I 1) (F 2) (F 3) (S 20 4) lv := by have q1 := hin.2.1; have q2 := hin.2.2; rw [h_lv]; unfold lvF; omega
    have hlv : -2000 ≤ lv ∧ lv ≤ 4000 := by omega
    have c2 : ¬ tLv I F ((shJ S 20) 0) = -2147483648 := cv2
    have eJ : tkJ I F (S 20 7) (I 25) (shJ S 20) (shG Y 25 26 27 28) = tkJ2 I F (S 20 7) (I 25) (shJ S 20) (shG Y 25 26 27 28) := by funext k; unfold tkJ; rw [if_neg c1, if_neg c2]
    have eG : tkG I F (S 20 7) (I 25) (shJ S 20) (shG Y 25 26 27 28) = tkG2 I F (S 20 7) (I 25) (shJ S 20) (shG Y 25 26 27 28) := by funext k; unfold tkG; rw [if_neg c1, if_neg c2]
    refine lv_aload_n hx hb dX1_sways_28 rfl (lv_at hl 1 rfl) ?_
    refine r_iconst hx hb dX1_sways_29 ?_
    refine cp_X1_152 (r := 20) hCK hG hS (Or.inr rfl) (by decide) dX1_sways_30 (fun H locs hG hS => ?_)
    refine lv_aload_n hx hb dX1_sways_33 rfl (lv_at hl 1 rfl) ?_
    refine lv_iload_n hx hb dX1_sways_34 rfl (lv_at hl 0 rfl) ?_
    refine c_callv (c_run (n := 1) (C0 := RX1) (b := ad 20) (rest := []) (as := [.int (iI lv)]) hCK hE hml (cpushes_20 l adK adV st D E A ad nv I F (up2 S 20 12 1) (va_up Y 25 T0) L lv hlv hpp hn gh0 gs0 gl0 gm0 gt0 gr0 hru b28 b29 ht b30 hpl gw0) (g_rec (r := 20) (ci := 1) hK hG (Or.inl (by omega)) rfl (cC_s (Or.inr rfl))) q866 q868 qs26 q72 q869 (by decide +kernel) ⟨rfl, rfl⟩ hR (by decide) ⟨Nat.zero_le _, Nat.zero_le _⟩ hG hS rfl hl.1 rfl (Nat.le_of_ble_eq_true rfl) dX1_sways_35) hS (fun I9 F10 S11 Y12 H locs hp13 hG hS => ?_)
    obtain ⟨rfl, rfl, rfl, gp6, gq6, rfl⟩ := hp13
    have hG : CW D E A ad nv I F (up2 (up2 S 20 12 1) 20 6 (clampZ (((-(armS (upS (I 1) (F 2) (F 3) (S 20 4) lv) (heavyS (I 4) (F 9) (F 5) (I 10) (F 14)) (pushS (I 1) (F 2) (F 3) (S 20 4) lv) ((downS (I 4) (F 9) (F 5) T0 (F 7) (I 10) (F 14) (F 13) (F 11) (F 12)) (S 20 4)))).tdiv (I 22)) + (seaS (I 18) (F 19) (F 20) (F 21) (S 20 7)) + ((-((S 20 5) * I 23)).tdiv 10) + (if soZ F 1 (nmS I F (S 20 4) (S 20 5) (S 20 7) (S 20 8) (Y 28) T0) = 0 then 0 else (-((S 20 5) * I 25)).tdiv 4)) 1000)) (va_up (va_up (va_up (va_up Y 25 T0) 3 gp6) 2 gq6) 26 (updZ (updZ (updZ (updZ (Y 26) 0 ((-(armS (upS (I 1) (F 2) (F 3) (S 20 4) lv) (heavyS (I 4) (F 9) (F 5) (I 10) (F 14)) (pushS (I 1) (F 2) (F 3) (S 20 4) lv) ((downS (I 4) (F 9) (F 5) T0 (F 7) (I 10) (F 14) (F 13) (F 11) (F 12)) (S 20 4)))).tdiv (I 22))) 1 (seaS (I 18) (F 19) (F 20) (F 21) (S 20 7))) 2 ((-((S 20 5) * I 23)).tdiv 10)) 3 (if soZ F 1 (nmS I F (S 20 4) (S 20 5) (S 20 7) (S 20 8) (Y 28) T0) = 0 then 0 else (-((S 20 5) * I 25)).tdiv 4))) L H := hG
    obtain ⟨fo, h_fo⟩ : ∃ x : Int, x = clampZ (((-(armS (upS (I 1) (F 2) (F 3) (S 20 4) lv) (heavyS (I 4) (F 9) (F 5) (I 10) (F 14)) (pushS (I 1) (F 2) (F 3) (S 20 4) lv) ((downS (I 4) (F 9) (F 5) T0 (F 7) (I 10) (F 14) (F 13) (F 11) (F 12)) (S 20 4)))).tdiv (I 22)) + (seaS (I 18) (F 19) (F 20) (F 21) (S 20 7)) + ((-((S 20 5) * I 23)).tdiv 10) + (if soZ F 1 (nmS I F (S 20 4) (S 20 5) (S 20 7) (S 20 8) (Y 28) T0) = 0 then 0 else (-((S 20 5) * I 25)).tdiv 4)) 1000 := ⟨_, rfl⟩
    obtain ⟨pa, h_pa⟩ : ∃ x : Int → Int, x = updZ (updZ (updZ (updZ (Y 26) 0 ((-(armS (upS (I 1) (F 2) (F 3) (S 20 4) lv) (heavyS (I 4) (F 9) (F 5) (I 10) (F 14)) (pushS (I 1) (F 2) (F 3) (S 20 4) lv) ((downS (I 4) (F 9) (F 5) T0 (F 7) (I 10) (F 14) (F 13) (F 11) (F 12)) (S 20 4)))).tdiv (I 22))) 1 (seaS (I 18) (F 19) (F 20) (F 21) (S 20 7))) 2 ((-((S 20 5) * I 23)).tdiv 10)) 3 (if soZ F 1 (nmS I F (S 20 4) (S 20 5) (S 20 7) (S 20 8) (Y 28) T0) = 0 then 0 else (-((S 20 5) * I 25)).tdiv 4) := ⟨_, rfl⟩
    rw [← h_fo, ← h_pa] at hG
    have e_fo : fo = tFo I F (S 20 7) (I 25) (shJ S 20) (shG Y 25 26 27 28) := by rw [h_fo, h_lv, h_T0]; rfl
    have e_pa : pa = tPa I F (S 20 7) (I 25) (shJ S 20) (shG Y 25 26 27 28) := by
      rw [h_pa, h_lv, h_T0]
      funext i
      by_cases q3 : i = 3
      · subst q3; rw [updZ_s]; rfl
      rw [updZ_n q3]
      by_cases q2 : i = 2
      · subst q2; rw [updZ_s]; rfl
      rw [updZ_n q2]
      by_cases q1 : i = 1
      · subst q1; rw [updZ_s]; rfl
      rw [updZ_n q1]
      by_cases q0 : i = 0
      · subst q0; rw [updZ_s]; rfl
      rw [updZ_n q0]
      unfold tPa
      rw [if_neg q0, if_neg q1, if_neg q2, if_neg q3]
      rfl
    have b_fo : -1000 ≤ fo ∧ fo ≤ 1000 := by rw [h_fo]; exact clampZ_bd (by decide)
    clear h_fo h_pa
    have q4 := tdiv_bd (a := fo) (b := I 24) (M := 1000) (by omega) (by omega)
    refine lv_aload_n hx hb dX1_sways_38 rfl (lv_at hl 1 rfl) ?_
    refine lv_aload_n hx hb dX1_sways_39 rfl (lv_at hl 1 rfl) ?_
    refine cg_X1_39 (v := S 20 5) hCK hG (r := 20) (Or.inr rfl) rfl dX1_sways_40 ?_
    refine lv_aload_n hx hb dX1_sways_43 rfl (lv_at hl 1 rfl) ?_
    refine cg_X1_139 (v := fo) hCK hG (r := 20) (Or.inr rfl) rfl dX1_sways_44 ?_
    refine lv_aload_n hx hb dX1_sways_47 rfl (lv_at hl 1 rfl) ?_
    refine cg_X1_3 hCK hG (r := 20) (Or.inr rfl) dX1_sways_48 ?_
    refine cg_X1_165 (v := I 24) hCK hE hG rfl dX1_sways_51 ?_
    refine s_calli (j_runSN (n := 3) (rest := [.ref (ad 20)]) (as := [.int (iI (S 20 5)), .int (iI fo), .int (iI (I 24))]) hx hb hml hown hts hE ((cfaster l (S 20 5) fo (I 24) (by omega) (by omega) (by omega) (by omega)).jm) (fun _ _ _ _ _ => trivial) (fun _ _ _ => trivial) q905 q906 q68 q907 (by decide +kernel) ⟨rfl, rfl⟩ hR (by decide) ⟨Nat.zero_le _, Nat.zero_le _⟩ rfl hl.1 rfl (Nat.le_of_ble_eq_true rfl) dX1_sways_54) ?_
    obtain ⟨sp2, h_sp2⟩ : ∃ x : Int, x = clampZ ((S 20 5) + fo.tdiv (I 24)) 30 := ⟨_, rfl⟩
    refine W.eq (g2 := F0 m 57 ls [.int (iI sp2), .ref (ad 20)]) (by subst h_sp2; rfl) ?_
    have b_sp2 : -30 ≤ sp2 ∧ sp2 ≤ 30 := by rw [h_sp2]; exact clampZ_bd (by decide)
    have e_sp2 : sp2 = tSp I F (S 20 7) (I 25) (shJ S 20) (shG Y 25 26 27 28) := by rw [h_sp2, e_fo]; rfl
    have b_ax : 0 ≤ absI (S 20 4 + sp2) ∧ absI (S 20 4 + sp2) ≤ 110 := by unfold absI; split <;> omega
    refine cp_X1_39 (r := 20) hCK hG hS (Or.inr rfl) dX1_sways_57 (fun H locs hG hS => ?_)
    refine lv_aload_n hx hb dX1_sways_60 rfl (lv_at hl 1 rfl) ?_
    refine lv_aload_n hx hb dX1_sways_61 rfl (lv_at hl 1 rfl) ?_
    refine cg_X1_35 (v := S 20 4) hCK hG (r := 20) (Or.inr rfl) rfl dX1_sways_62 ?_
    refine lv_aload_n hx hb dX1_sways_65 rfl (lv_at hl 1 rfl) ?_
    refine cg_X1_39 (v := sp2) hCK hG (r := 20) (Or.inr rfl) rfl dX1_sways_66 ?_
    refine r_iadd hx hb dX1_sways_69 ?_
    refine s_calli (j_runS (n := 1) (rest := [.ref (ad 20)]) (as := [.int (iI ((S 20 4) + sp2))]) hx hb hml hown hts ((met_abs l ((S 20 4) + sp2) (by omega)).jm) (fun _ _ _ _ _ => trivial) (fun _ _ _ => trivial) q909 q910 q76 q911 (by decide +kernel) ⟨rfl, rfl⟩ hR (by decide) ⟨Nat.zero_le _, Nat.zero_le _⟩ rfl hl.1 rfl (Nat.le_of_ble_eq_true rfl) dX1_sways_70) ?_
    refine r_bipush hx hb dX1_sways_73 (by decide) ?_
    have jn14 : W p l e R s m args below meth c H locs 0 0 Q (F0 m 83 ls [.int (iI (if absI (S 20 4 + sp2) ≤ 80 then 0 else 1)), .ref (ad 20)]) := by
      obtain ⟨ov, h_ov⟩ : ∃ x : Int, x = if absI (S 20 4 + sp2) ≤ 80 then 0 else 1 := ⟨_, rfl⟩
      refine W.eq (g2 := F0 m 83 ls [.int (iI ov), .ref (ad 20)]) (by subst h_ov; rfl) ?_
      have b_ov : ov = 0 ∨ ov = 1 := by rw [h_ov]; split <;> simp
      have e_ov : ov = if S 20 4 + sp2 = clampZ (S 20 4 + sp2) 80 then 0 else 1 := by rw [h_ov]; exact ov_eq _
      refine cp_X1_51 (r := 20) hCK hG hS (Or.inr rfl) (by omega) dX1_sways_83 (fun H locs hG hS => ?_)
      refine lv_aload_n hx hb dX1_sways_86 rfl (lv_at hl 1 rfl) ?_
      refine lv_aload_n hx hb dX1_sways_87 rfl (lv_at hl 1 rfl) ?_
      refine cg_X1_35 (v := S 20 4) hCK hG (r := 20) (Or.inr rfl) rfl dX1_sways_88 ?_
      refine lv_aload_n hx hb dX1_sways_91 rfl (lv_at hl 1 rfl) ?_
      refine cg_X1_39 (v := sp2) hCK hG (r := 20) (Or.inr rfl) rfl dX1_sways_92 ?_
      refine r_iadd hx hb dX1_sways_95 ?_
      refine r_i2l hx hb dX1_sways_96 (by omega) ?_
      refine r_bipush hx hb dX1_sways_97 (by decide) ?_
      refine s_calli (j_runSN (n := 2) (rest := [.ref (ad 20)]) (as := [.long (iL ((S 20 4) + sp2)), .int (iI 80)]) hx hb hml hown hts hE ((cbrought l ((S 20 4) + sp2) 80 (by omega) (by decide)).jm) (fun _ _ _ _ _ => trivial) (fun _ _ _ => trivial) q900 q901 q68 q902 (by decide +kernel) ⟨rfl, rfl⟩ hR (by decide) ⟨Nat.zero_le _, Nat.zero_le _⟩ rfl hl.1 rfl (Nat.le_of_ble_eq_true rfl) dX1_sways_99) ?_
      obtain ⟨sl2, h_sl2⟩ : ∃ x : Int, x = clampZ ((S 20 4) + sp2) 80 := ⟨_, rfl⟩
      refine W.eq (g2 := F0 m 102 ls [.int (iI sl2), .ref (ad 20)]) (by subst h_sl2; rfl) ?_
      have b_sl2 : -80 ≤ sl2 ∧ sl2 ≤ 80 := by rw [h_sl2]; exact clampZ_bd (by decide)
      have e_sl2 : sl2 = tSl I F (S 20 7) (I 25) (shJ S 20) (shG Y 25 26 27 28) := by rw [h_sl2, e_sp2]; rfl
      have b_as := absI_bd b_sl2
      rw [← h_sl2] at e_ov
      refine cp_X1_35 (r := 20) hCK hG hS (Or.inr rfl) dX1_sways_102 (fun H locs hG hS => ?_)
      refine lv_aload_n hx hb dX1_sways_105 rfl (lv_at hl 1 rfl) ?_
      refine lv_aload_n hx hb dX1_sways_106 rfl (lv_at hl 1 rfl) ?_
      refine cg_X1_61 (v := S 20 10) hCK hG (r := 20) (Or.inr rfl) rfl dX1_sways_107 ?_
      refine lv_aload_n hx hb dX1_sways_110 rfl (lv_at hl 1 rfl) ?_
      refine cg_X1_35 (v := sl2) hCK hG (r := 20) (Or.inr rfl) rfl dX1_sways_111 ?_
      refine s_calli (j_runS (n := 1) (rest := [.int (iI (S 20 10)), .ref (ad 20)]) (as := [.int (iI sl2)]) hx hb hml hown hts ((met_abs l sl2 (by omega)).jm) (fun _ _ _ _ _ => trivial) (fun _ _ _ => trivial) q909 q910 q76 q911 (by decide +kernel) ⟨rfl, rfl⟩ hR (by decide) ⟨Nat.zero_le _, Nat.zero_le _⟩ rfl hl.1 rfl (Nat.le_of_ble_eq_true rfl) dX1_sways_114) ?_
      refine s_calli (j_runS (n := 2) (rest := [.ref (ad 20)]) (as := [.int (iI (S 20 10)), .int (iI (absI sl2))]) hx hb hml hown hts ((met_max l (S 20 10) (absI sl2) (by omega) (by omega)).jm) (fun _ _ _ _ _ => trivial) (fun _ _ _ => trivial) q863 q406 q76 q407 (by decide +kernel) ⟨rfl, rfl⟩ hR (by decide) ⟨Nat.zero_le _, Nat.zero_le _⟩ rfl hl.1 rfl (Nat.le_of_ble_eq_true rfl) dX1_sways_117) ?_
      obtain ⟨gr2, h_gr2⟩ : ∃ x : Int, x = if (S 20 10) < (absI sl2) then (absI sl2) else (S 20 10) := ⟨_, rfl⟩
      refine W.eq (g2 := F0 m 120 ls [.int (iI gr2), .ref (ad 20)]) (by subst h_gr2; rfl) ?_
      have e_gr : gr2 = if S 20 10 < absI sl2 then absI sl2 else S 20 10 := by rw [h_gr2]; repeat (first | omega | split)
      have b_as2 : 0 ≤ absI sp2 ∧ absI sp2 ≤ 30 := by unfold absI; split <;> omega
      refine cp_X1_61 (r := 20) hCK hG hS (Or.inr rfl) dX1_sways_120 (fun H locs hG hS => ?_)
      refine lv_aload_n hx hb dX1_sways_123 rfl (lv_at hl 1 rfl) ?_
      refine lv_dup hx hb dX1_sways_124 rfl ?_
      refine cg_X1_45 (v := S 20 8) hCK hG (r := 20) (Or.inr rfl) rfl dX1_sways_125 ?_
      refine r_iconst hx hb dX1_sways_128 ?_
      refine lv_aload_n hx hb dX1_sways_129 rfl (lv_at hl 1 rfl) ?_
      refine cg_X1_39 (v := sp2) hCK hG (r := 20) (Or.inr rfl) rfl dX1_sways_130 ?_
      refine s_calli (j_runS (n := 1) (rest := [.int (iI 0), .int (iI (S 20 8)), .ref (ad 20)]) (as := [.int (iI sp2)]) hx hb hml hown hts ((met_abs l sp2 (by omega)).jm) (fun _ _ _ _ _ => trivial) (fun _ _ _ => trivial) q909 q910 q76 q911 (by decide +kernel) ⟨rfl, rfl⟩ hR (by decide) ⟨Nat.zero_le _, Nat.zero_le _⟩ rfl hl.1 rfl (Nat.le_of_ble_eq_true rfl) dX1_sways_133) ?_
      refine r_iconst hx hb dX1_sways_136 ?_
      refine r_isub hx hb dX1_sways_137 ?_
      refine s_calli (j_runS (n := 2) (rest := [.int (iI (S 20 8)), .ref (ad 20)]) (as := [.int (iI 0), .int (iI ((absI sp2) - 4))]) hx hb hml hown hts ((met_max l 0 ((absI sp2) - 4) (by decide) (by omega)).jm) (fun _ _ _ _ _ => trivial) (fun _ _ _ => trivial) q863 q406 q76 q407 (by decide +kernel) ⟨rfl, rfl⟩ hR (by decide) ⟨Nat.zero_le _, Nat.zero_le _⟩ rfl hl.1 rfl (Nat.le_of_ble_eq_true rfl) dX1_sways_138) ?_
      refine r_iadd hx hb dX1_sways_141 ?_
      obtain ⟨si2, h_si2⟩ : ∃ x : Int, x = (S 20 8) + (if 0 < ((absI sp2) - 4) then ((absI sp2) - 4) else 0) := ⟨_, rfl⟩
      refine W.eq (g2 := F0 m 142 ls [.int (iI si2), .ref (ad 20)]) (by subst h_si2; rfl) ?_
      have b_si2 : 0 ≤ si2 ∧ si2 ≤ 100000 := by rw [h_si2]; split <;> omega
      have e_si2 : si2 = tSi I F (S 20 7) (I 25) (shJ S 20) (shG Y 25 26 27 28) := by rw [h_si2]; show _ = S 20 8 + (if 4 < absI (tSp I F (S 20 7) (I 25) (shJ S 20) (shG Y 25 26 27 28)) then absI (tSp I F (S 20 7) (I 25) (shJ S 20) (shG Y 25 26 27 28)) - 4 else 0); rw [← e_sp2]; repeat (first | omega | split)
      refine cp_X1_45 (r := 20) hCK hG hS (Or.inr rfl) dX1_sways_142 (fun H locs hG hS => ?_)
      refine lv_aload_n hx hb dX1_sways_145 rfl (lv_at hl 1 rfl) ?_
      refine r_iconst hx hb dX1_sways_146 ?_
      refine c_calli (c_run (n := 1) (C0 := RX1) (b := ad 20) (rest := []) (as := [.int (iI 0)]) hCK hE hml (cholds_20 l adK adV st D E A ad nv I F (up2 (up2 (up2 (up2 (up2 (up2 (up2 S 20 12 1) 20 6 fo) 20 5 sp2) 20 11 ov) 20 4 sl2) 20 10 gr2) 20 8 si2) (va_up (va_up (va_up (va_up Y 25 T0) 3 gp6) 2 gq6) 26 pa) L 0 (by decide) hn gs0 gl0 gm0 gr0 hru b_sl2 b_sp2 ht b_si2 hpl gw0) (g_rec (r := 20) (ci := 1) hK hG (Or.inl (by omega)) rfl (cC_s (Or.inr rfl))) q872 q873 q874 q72 q875 (by decide +kernel) ⟨rfl, rfl⟩ hR (by decide) ⟨Nat.zero_le _, Nat.zero_le _⟩ hG hS rfl hl.1 rfl (Nat.le_of_ble_eq_true rfl) dX1_sways_147) hS (fun z16 I17 F18 S19 Y20 H locs hp21 hG hS => ?_)
      obtain ⟨rfl, rfl, rfl, rfl, gh14, gk14, rfl⟩ := hp21
      have hG : CW D E A ad nv I F (up2 (up2 (up2 (up2 (up2 (up2 (up2 S 20 12 1) 20 6 fo) 20 5 sp2) 20 11 ov) 20 4 sl2) 20 10 gr2) 20 8 si2) (va_up (va_up (va_up (va_up (va_up (va_up Y 25 T0) 3 gp6) 2 gq6) 26 pa) 3 gh14) 2 gk14) L H := hG
      refine W.eq (g2 := F0 m 150 ls [.int (iI (soZ F 0 (nmS I F sl2 sp2 (S 20 7) si2 (Y 28) T0)))]) rfl ?_
      obtain ⟨so0, h_so0⟩ : ∃ x : Int, x = soZ F 0 (nmS I F sl2 sp2 (S 20 7) si2 (Y 28) T0) := ⟨_, rfl⟩
      refine W.eq (g2 := F0 m 150 ls [.int (iI so0)]) (by subst h_so0; rfl) ?_
      have b_so0 : so0 = 0 ∨ so0 = 1 := by rw [h_so0]; exact soZ_01 _ _ _
      have e_wo : tWo I F (S 20 7) (I 25) (shJ S 20) (shG Y 25 26 27 28) = S 20 9 + if so0 = 0 then 0 else 1 := by rw [h_so0, e_sl2, e_sp2, e_si2, e_T0]; rfl
      refine r_if_eq (tgt := 163) hx hb dX1_sways_150 (by decide) (by omega) (fun cw => ?_) (fun cw => ?_)
      · refine lv_aload_n hx hb dX1_sways_163 rfl (lv_at hl 1 rfl) ?_
        refine c_callv (c_run (n := 0) (C0 := RX1) (b := ad 20) (rest := []) (as := []) hCK hE hml (cwets_20 l adK adV st D E A ad nv I F (up2 (up2 (up2 (up2 (up2 (up2 (up2 S 20 12 1) 20 6 fo) 20 5 sp2) 20 11 ov) 20 4 sl2) 20 10 gr2) 20 8 si2) (va_up (va_up (va_up (va_up (va_up (va_up Y 25 T0) 3 gp6) 2 gq6) 26 pa) 3 gh14) 2 gk14) L hn gh0 gl0 gm0 b_sl2 gw0) (g_rec (r := 20) (ci := 1) hK hG (Or.inl (by omega)) rfl (cC_s (Or.inr rfl))) q912 q914 qs28 q72 q915 (by decide +kernel) ⟨rfl, rfl⟩ hR (by decide) ⟨Nat.zero_le _, Nat.zero_le _⟩ hG hS rfl hl.1 rfl (Nat.le_of_ble_eq_true rfl) dX1_sways_164) hS (fun I23 F24 S25 Y26 H locs hp27 hG hS => ?_)
        obtain ⟨rfl, rfl, rfl, rfl⟩ := hp27
        have hG : CW D E A ad nv I F (up2 (up2 (up2 (up2 (up2 (up2 (up2 S 20 12 1) 20 6 fo) 20 5 sp2) 20 11 ov) 20 4 sl2) 20 10 gr2) 20 8 si2) (va_up (va_up (va_up (va_up (va_up (va_up (va_up (va_up Y 25 T0) 3 gp6) 2 gq6) 26 pa) 3 gh14) 2 gk14) 27 (fedT (Y 27) 0 (fun m => if isWetS I F sl2 m = 1 ∧ (Y 28) m = 0 then (Y 27) m + 1 else (Y 27) m) (I 15))) 28 (fedT (Y 28) 0 (isWetS I F sl2) (I 15))) L H := hG
        exact c_vret hCK hQ hr hlk hG hS dX1_sways_167 (⟨rfl, rfl, shpS_ext (by rw [eJ]; exact e_sl2.symm) (by rw [eJ]; exact e_sp2.symm) (by rw [eJ]; exact e_si2.symm) (by rw [eJ]; exact (show tWo I F (S 20 7) (I 25) (shJ S 20) (shG Y 25 26 27 28) = S 20 9 by rw [e_wo, if_pos cw, Int.add_zero])) (by rw [eJ]; show (if S 20 4 + tSp I F (S 20 7) (I 25) (shJ S 20) (shG Y 25 26 27 28) = tSl I F (S 20 7) (I 25) (shJ S 20) (shG Y 25 26 27 28) then (0 : Int) else 1) = ov; rw [← e_sp2, ← e_sl2, e_ov]) (by rw [eJ]; exact e_fo.symm) (by rw [eJ]; rfl) rfl (by rw [eJ]; show (if (1 : Int) ≠ 0 ∧ S 20 10 < absI (tSl I F (S 20 7) (I 25) (shJ S 20) (shG Y 25 26 27 28)) then absI (tSl I F (S 20 7) (I 25) (shJ S 20) (shG Y 25 26 27 28)) else S 20 10) = gr2; rw [← e_sl2, e_gr]; repeat (first | omega | split)) (fun k hk => by simp [up2, va_up, show k ≠ 4 by omega, show k ≠ 5 by omega, show k ≠ 6 by omega, show k ≠ 8 by omega, show k ≠ 9 by omega, show k ≠ 10 by omega, show k ≠ 11 by omega, show k ≠ 12 by omega]) (fun r hr => by repeat rw [up2_ne hr]), ⟨_, _, shpY_ext (by rw [eG]; exact e_T0.symm) (by rw [eG, e_sl2]; rfl) (by rw [eG, e_sl2]; rfl) (by rw [eG]; exact e_pa.symm) rfl rfl (fun r n0 n1 n2 n3 n4 n5 => by simp [va_up, n0, n1, n2, n3, n4, n5])⟩⟩)
      · refine lv_aload_n hx hb dX1_sways_153 rfl (lv_at hl 1 rfl) ?_
        refine lv_dup hx hb dX1_sways_154 rfl ?_
        refine cg_X1_48 (v := S 20 9) hCK hG (r := 20) (Or.inr rfl) rfl dX1_sways_155 ?_
        refine r_iconst hx hb dX1_sways_158 ?_
        refine r_iadd hx hb dX1_sways_159 ?_
        refine cp_X1_48 (r := 20) hCK hG hS (Or.inr rfl) dX1_sways_160 (fun H locs hG hS => ?_)
        refine lv_aload_n hx hb dX1_sways_163 rfl (lv_at hl 1 rfl) ?_
        refine c_callv (c_run (n := 0) (C0 := RX1) (b := ad 20) (rest := []) (as := []) hCK hE hml (cwets_20 l adK adV st D E A ad nv I F (up2 (up2 (up2 (up2 (up2 (up2 (up2 (up2 S 20 12 1) 20 6 fo) 20 5 sp2) 20 11 ov) 20 4 sl2) 20 10 gr2) 20 8 si2) 20 9 ((S 20 9) + 1)) (va_up (va_up (va_up (va_up (va_up (va_up Y 25 T0) 3 gp6) 2 gq6) 26 pa) 3 gh14) 2 gk14) L hn gh0 gl0 gm0 b_sl2 gw0) (g_rec (r := 20) (ci := 1) hK hG (Or.inl (by omega)) rfl (cC_s (Or.inr rfl))) q912 q914 qs28 q72 q915 (by decide +kernel) ⟨rfl, rfl⟩ hR (by decide) ⟨Nat.zero_le _, Nat.zero_le _⟩ hG hS rfl hl.1 rfl (Nat.le_of_ble_eq_true rfl) dX1_sways_164) hS (fun I29 F30 S31 Y32 H locs hp33 hG hS => ?_)
        obtain ⟨rfl, rfl, rfl, rfl⟩ := hp33
        have hG : CW D E A ad nv I F (up2 (up2 (up2 (up2 (up2 (up2 (up2 (up2 S 20 12 1) 20 6 fo) 20 5 sp2) 20 11 ov) 20 4 sl2) 20 10 gr2) 20 8 si2) 20 9 ((S 20 9) + 1)) (va_up (va_up (va_up (va_up (va_up (va_up (va_up (va_up Y 25 T0) 3 gp6) 2 gq6) 26 pa) 3 gh14) 2 gk14) 27 (fedT (Y 27) 0 (fun m => if isWetS I F sl2 m = 1 ∧ (Y 28) m = 0 then (Y 27) m + 1 else (Y 27) m) (I 15))) 28 (fedT (Y 28) 0 (isWetS I F sl2) (I 15))) L H := hG
        exact c_vret hCK hQ hr hlk hG hS dX1_sways_167 (⟨rfl, rfl, shpS_ext (by rw [eJ]; exact e_sl2.symm) (by rw [eJ]; exact e_sp2.symm) (by rw [eJ]; exact e_si2.symm) (by rw [eJ]; exact (show tWo I F (S 20 7) (I 25) (shJ S 20) (shG Y 25 26 27 28) = S 20 9 + 1 by rw [e_wo, if_neg cw])) (by rw [eJ]; show (if S 20 4 + tSp I F (S 20 7) (I 25) (shJ S 20) (shG Y 25 26 27 28) = tSl I F (S 20 7) (I 25) (shJ S 20) (shG Y 25 26 27 28) then (0 : Int) else 1) = ov; rw [← e_sp2, ← e_sl2, e_ov]) (by rw [eJ]; exact e_fo.symm) (by rw [eJ]; rfl) rfl (by rw [eJ]; show (if (1 : Int) ≠ 0 ∧ S 20 10 < absI (tSl I F (S 20 7) (I 25) (shJ S 20) (shG Y 25 26 27 28)) then absI (tSl I F (S 20 7) (I 25) (shJ S 20) (shG Y 25 26 27 28)) else S 20 10) = gr2; rw [← e_sl2, e_gr]; repeat (first | omega | split)) (fun k hk => by simp [up2, va_up, show k ≠ 4 by omega, show k ≠ 5 by omega, show k ≠ 6 by omega, show k ≠ 8 by omega, show k ≠ 9 by omega, show k ≠ 10 by omega, show k ≠ 11 by omega, show k ≠ 12 by omega]) (fun r hr => by repeat rw [up2_ne hr]), ⟨_, _, shpY_ext (by rw [eG]; exact e_T0.symm) (by rw [eG, e_sl2]; rfl) (by rw [eG, e_sl2]; rfl) (by rw [eG]; exact e_pa.symm) rfl rfl (fun r n0 n1 n2 n3 n4 n5 => by simp [va_up, n0, n1, n2, n3, n4, n5])⟩⟩)
    refine r_icmp_le (tgt := 82) hx hb dX1_sways_75 (by decide) (by omega) (by decide) (fun c34 => ?_) (fun c34 => ?_)
    · refine r_iconst hx hb dX1_sways_82 ?_
      rw [if_pos (by omega)] at jn14
      exact jn14
    · refine r_iconst hx hb dX1_sways_78 ?_
      refine lv_goto (tgt := 83) hx hb dX1_sways_79 (by decide) ?_
      rw [if_neg (by omega)] at jn14
      exact jn14
  · have c2 : tLv I F ((shJ S 20) 0) = -2147483648 := etl.trans c2
    have eJ : tkJ I F (S 20 7) (I 25) (shJ S 20) (shG Y 25 26 27 28) = fun k => if k = 5 ∨ k = 6 then 0 else if k = 4 then 1 else (shJ S 20) k := by funext k; unfold tkJ; rw [if_neg c1, if_pos c2]
    have eG : tkG I F (S 20 7) (I 25) (shJ S 20) (shG Y 25 26 27 28) = fun k => if k = 0 then tPl I F (shJ S 20) (shG Y 25 26 27 28) else (shG Y 25 26 27 28) k := by funext k; unfold tkG; rw [if_neg c1, if_pos c2]
    have eg : (if tkJ I F (S 20 7) (I 25) (shJ S 20) (shG Y 25 26 27 28) 6 ≠ 0 ∧ S 20 10 < absI (tkJ I F (S 20 7) (I 25) (shJ S 20) (shG Y 25 26 27 28) 0) then absI (tkJ I F (S 20 7) (I 25) (shJ S 20) (shG Y 25 26 27 28) 0) else S 20 10) = S 20 10 := if_neg (fun q => q.1 (by rw [eJ]; rfl))
    refine lv_aload_n hx hb dX1_sways_22 rfl (lv_at hl 1 rfl) ?_
    refine r_iconst hx hb dX1_sways_23 ?_
    refine cp_X1_51 (r := 20) hCK hG hS (Or.inr rfl) (by decide) dX1_sways_24 (fun H locs hG hS => ?_)
    exact c_vret hCK hQ hr hlk hG hS dX1_sways_27 (⟨rfl, rfl, shpS_ext (by rw [eJ]; rfl) (by rw [eJ]; rfl) (by rw [eJ]; rfl) (by rw [eJ]; rfl) (by rw [eJ]; rfl) (by rw [eJ]; exact z6.symm) (by rw [eJ]; exact z12.symm) rfl eg (fun k hk => by simp [up2, va_up, show k ≠ 11 by omega]) (fun r hr => by rw [up2_ne hr]), ⟨Y 3, Y 2, shpY_ext (by rw [eG]; exact e_T0.symm) (by rw [eG]; rfl) (by rw [eG]; rfl) (by rw [eG]; rfl) rfl rfl (fun r n0 _ _ _ _ _ => by simp [va_up, n0])⟩⟩)
