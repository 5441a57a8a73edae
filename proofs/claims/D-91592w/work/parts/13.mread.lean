/-! THE MODEL: methods that only read -/
set_option maxRecDepth 100000

def absZ (v : Int) : Int := if v < 0 then -v else v
def gwS (n : Int) (f : Int → Int) (per pha : Int) : Int := sm (fun t => f t * sineS per pha t) n
theorem gw_bd {n : Int} {f : Int → Int} {per pha : Int} (hn : 0 ≤ n ∧ n ≤ 64) (hf : Bd f 64 (-80) 80) : -5120000 ≤ gwS n f per pha ∧ gwS n f per pha ≤ 5120000 := by
  have h := sm_bd (f := fun t => f t * sineS per pha t) (n := n) (lo := -80000) (hi := 80000) hn.1 (fun k h0 h1 => mul_bd (A := 80) (B := 1000) (hf k h0 (by omega)) (sin16_bd _))
  unfold gwS
  omega
theorem six_in {t per pha : Int} (ht : 0 ≤ t ∧ t ≤ 100000) (hp : 0 < per) (ha : 0 ≤ pha ∧ pha ≤ 15) : (0 ≤ (16 * t).tdiv per ∧ (16 * t).tdiv per ≤ 1600000) ∧ 0 ≤ ((16 * t).tdiv per + pha).tmod 16 ∧ ((16 * t).tdiv per + pha).tmod 16 < 16 := by
  have h1 := tdiv_bd (a := 16 * t) (M := 1600000) hp (by omega)
  have h2 : 0 ≤ (16 * t).tdiv per := by rw [Int.tdiv_eq_ediv_of_nonneg (by omega)]; exact Int.ediv_nonneg (by omega) (by omega)
  refine ⟨⟨h2, h1.2⟩, ?_⟩
  rw [Int.tmod_eq_emod_of_nonneg (by omega)]
  omega
def amxN (f : Int → Int) : Nat → Int
  | 0 => 0
  | n + 1 => if absZ (f (amxN f n)) < absZ (f (n + 1)) then n + 1 else amxN f n
theorem amxN_bd (f : Int → Int) : ∀ n : Nat, 0 ≤ amxN f n ∧ amxN f n ≤ n
  | 0 => by simp [amxN]
  | n + 1 => by
    have h := amxN_bd f n
    unfold amxN
    split <;> omega
theorem amxN_s (f : Int → Int) {w : Int} (hw : 1 ≤ w) : amxN f w.toNat = if absZ (f (amxN f (w - 1).toNat)) < absZ (f w) then w else amxN f (w - 1).toNat := by
  have e : w.toNat = (w - 1).toNat + 1 := by omega
  have e2 : (((w - 1).toNat : Nat) : Int) + 1 = w := by omega
  rw [e]
  show (if absZ (f (amxN f (w - 1).toNat)) < absZ (f ((((w - 1).toNat : Nat) : Int) + 1)) then (((w - 1).toNat : Nat) : Int) + 1 else amxN f (w - 1).toNat) = _
  rw [e2]
def mxN (f : Int → Int) : Nat → Int
  | 0 => 0
  | n + 1 => if mxN f n < absZ (f n) then absZ (f n) else mxN f n
def mxS (f : Int → Int) (n : Int) : Int := mxN f n.toNat
theorem mxS_s (f : Int → Int) {n : Int} (h : 0 ≤ n) : mxS f (n + 1) = if mxS f n < absZ (f n) then absZ (f n) else mxS f n := by
  have e : (n + 1).toNat = n.toNat + 1 := by omega
  have e2 : ((n.toNat : Nat) : Int) = n := by omega
  unfold mxS
  rw [e]
  show (if mxN f n.toNat < absZ (f ((n.toNat : Nat) : Int)) then absZ (f ((n.toNat : Nat) : Int)) else mxN f n.toNat) = _
  rw [e2]
theorem mxN_bd {f : Int → Int} {B : Int} (hB : 0 ≤ B) : ∀ n : Nat, (∀ k : Nat, k < n → -B ≤ f k ∧ f k ≤ B) → 0 ≤ mxN f n ∧ mxN f n ≤ B
  | 0, _ => ⟨Int.le_refl _, hB⟩
  | n + 1, h => by
    have h1 := mxN_bd hB n (fun k hk => h k (by omega))
    have h2 := h n (by omega)
    show 0 ≤ (if mxN f n < absZ (f n) then absZ (f n) else mxN f n) ∧ (if mxN f n < absZ (f n) then absZ (f n) else mxN f n) ≤ B
    unfold absZ
    split <;> split <;> omega
theorem mxS_bd {f : Int → Int} {n : Int} (hn : 0 ≤ n ∧ n ≤ 64) (hf : Bd f 64 (-80) 80) : 0 ≤ mxS f n ∧ mxS f n ≤ 80 := mxN_bd (by decide) _ (fun k hk => hf k (by omega) (by omega))
/-- what read answers for 1, 2, 3, of the first n numbers -/
def rdS (wh : Int) (f : Int → Int) (n : Int) : Int := if wh = 1 then sm (fun t => if 0 < t ∧ 0 ≤ f t ∧ f (t - 1) < 0 then 1 else 0) n else if wh = 2 then sm (fun t => f t * f t) n else mxS f n
theorem rdS_1 {wh : Int} (h : wh = 1) (f : Int → Int) (n : Int) : rdS wh f n = sm (fun t => if 0 < t ∧ 0 ≤ f t ∧ f (t - 1) < 0 then 1 else 0) n := if_pos h
theorem rdS_2 {wh : Int} (h : wh = 2) (f : Int → Int) (n : Int) : rdS wh f n = sm (fun t => f t * f t) n := by unfold rdS; rw [if_neg (by omega), if_pos h]
theorem rdS_3 {wh : Int} (h : wh ≠ 1) (h2 : wh ≠ 2) (f : Int → Int) (n : Int) : rdS wh f n = mxS f n := by unfold rdS; rw [if_neg h, if_neg h2]
def readS (wh n : Int) (f : Int → Int) (nw : Int) (per pha : Int → Int) : Int := if wh = 0 then (if nw = 0 ∨ n = 0 then -1 else amxN (fun w => gwS n f (per w) (pha w)) (nw - 1).toNat) else if wh = 1 ∨ wh = 2 ∨ wh = 3 then rdS wh f n else -2147483648
theorem sq_nn (a : Int) : 0 ≤ a * a := by
  rcases Int.le_total 0 a with q | q
  · exact Int.mul_nonneg q q
  · exact Int.mul_nonneg_of_nonpos_of_nonpos q q
def queasyS (per hei : Int → Int) (own h go : Int) : Int := (64 * hei h).tdiv (1 + (per h - go - own) * (per h - go - own))
def checkS (now : Int) (whole kS kV kF kI : Int → Int) (t nb mk : Int) : Int :=
  if (0 ≤ t ∧ t < now) ∧ (0 ≤ nb ∧ nb ≤ 2) ∧ whole t ≠ 0 then
    (if (if nb = 1 then xorZ (kV t) mk else kV t) ≠ clampZ ((if t = 0 then 0 else kV (t - 1)) + (if nb = 2 then xorZ (kF t) mk else kF t).tdiv (kI t)) 30 then 1
     else if (if nb = 0 then xorZ (kS t) mk else kS t) = clampZ ((if t = 0 then 0 else kS (t - 1)) + (if nb = 1 then xorZ (kV t) mk else kV t)) 80 then 0 else 2)
  else -1
theorem dX2_sineOf_0 : decode cX2_sineOf 0 = .ok (.aload_n 0, 1) := by decide +kernel
theorem dX2_sineOf_1 : decode cX2_sineOf 1 = .ok (.getfield 7, 3) := by decide +kernel
theorem dX2_sineOf_4 : decode cX2_sineOf 4 = .ok (.bipush 16, 2) := by decide +kernel
theorem dX2_sineOf_6 : decode cX2_sineOf 6 = .ok (.iload_n 2, 1) := by decide +kernel
theorem dX2_sineOf_7 : decode cX2_sineOf 7 = .ok (.imul, 1) := by decide +kernel
theorem dX2_sineOf_8 : decode cX2_sineOf 8 = .ok (.aload_n 0, 1) := by decide +kernel
theorem dX2_sineOf_9 : decode cX2_sineOf 9 = .ok (.getfield 56, 3) := by decide +kernel
theorem dX2_sineOf_12 : decode cX2_sineOf 12 = .ok (.iload_n 1, 1) := by decide +kernel
theorem dX2_sineOf_13 : decode cX2_sineOf 13 = .ok (.iaload, 1) := by decide +kernel
theorem dX2_sineOf_14 : decode cX2_sineOf 14 = .ok (.idiv, 1) := by decide +kernel
theorem dX2_sineOf_15 : decode cX2_sineOf 15 = .ok (.aload_n 0, 1) := by decide +kernel
theorem dX2_sineOf_16 : decode cX2_sineOf 16 = .ok (.getfield 59, 3) := by decide +kernel
theorem dX2_sineOf_19 : decode cX2_sineOf 19 = .ok (.iload_n 1, 1) := by decide +kernel
theorem dX2_sineOf_20 : decode cX2_sineOf 20 = .ok (.iaload, 1) := by decide +kernel
theorem dX2_sineOf_21 : decode cX2_sineOf 21 = .ok (.iadd, 1) := by decide +kernel
theorem dX2_sineOf_22 : decode cX2_sineOf 22 = .ok (.bipush 16, 2) := by decide +kernel
theorem dX2_sineOf_24 : decode cX2_sineOf 24 = .ok (.irem, 1) := by decide +kernel
theorem dX2_sineOf_25 : decode cX2_sineOf 25 = .ok (.iaload, 1) := by decide +kernel
theorem dX2_sineOf_26 : decode cX2_sineOf 26 = .ok (.ireturn, 1) := by decide +kernel
set_option maxHeartbeats 4000000 in
theorem met_sineOf (l : Launch) (D : va_G) (E : Nat → ClassId) (A : Nat → Prop) (h : Nat) (ad : Nat → Nat) (I : Nat → Int) (F : Nat → Int → Int) (wv t : Int) (hw : 0 ≤ wv ∧ wv < I 18) (ht : 0 ≤ t ∧ t ≤ 100000) (gl : gSea I F) : MM l yX2_sineOf cX2_sineOf 3 (some .int) (mrm 0) D E A h ad [.int (iI wv), .int (iI t)] I F (MQi D E A h ad (fun z I1 F1 => sineS (F 20 wv) (F 21 wv) t = z ∧ I = I1 ∧ F = F1)) := by
  refine m_start (by decide) rfl (Nat.le_of_ble_eq_true rfl) ?_
  intro p e R s m args below meth c ls Q hR hQ hC hml hr hlk hM hS hl
  have hx := hC.1
  have hb := hC.2.1
  have hown := hC.2.2.1
  have hts := hC.2.2.2.1
  have hl : lv_has ls 3 [(0, .ref h), (1, .int (iI wv)), (2, .int (iI t))] := hl
  obtain ⟨i18, a0, a19, a20, a21⟩ := gl
  have b20 := a20 wv hw.1 hw.2
  have b21 := a21 wv (by omega) (by omega)
  have hs := six_in (t := t) (per := F 20 wv) (pha := F 21 wv) ht (by omega) b21
  refine lv_aload_n hx hb dX2_sineOf_0 rfl (lv_at hl 0 rfl) ?_
  refine mg_0 hC hM dX2_sineOf_1 ?_
  refine r_bipush hx hb dX2_sineOf_4 (by decide) ?_
  refine lv_iload_n hx hb dX2_sineOf_6 rfl (lv_at hl 2 rfl) ?_
  refine r_imul hx hb dX2_sineOf_7 ?_
  refine lv_aload_n hx hb dX2_sineOf_8 rfl (lv_at hl 0 rfl) ?_
  refine mg_20 hC hM dX2_sineOf_9 ?_
  refine lv_iload_n hx hb dX2_sineOf_12 rfl (lv_at hl 1 rfl) ?_
  refine ml_20 (v := F 20 wv) hC hM (by omega) rfl dX2_sineOf_13 ?_
  refine r_idiv hx hb dX2_sineOf_14 (by omega) (by omega) (by omega) ?_
  refine lv_aload_n hx hb dX2_sineOf_15 rfl (lv_at hl 0 rfl) ?_
  refine mg_21 hC hM dX2_sineOf_16 ?_
  refine lv_iload_n hx hb dX2_sineOf_19 rfl (lv_at hl 1 rfl) ?_
  refine ml_21 (v := F 21 wv) hC hM (by omega) rfl dX2_sineOf_20 ?_
  refine r_iadd hx hb dX2_sineOf_21 ?_
  refine r_bipush hx hb dX2_sineOf_22 (by decide) ?_
  refine r_irem hx hb dX2_sineOf_24 (by omega) (by decide) (by decide) ?_
  refine ml_0 (v := F 0 ((((16 * t).tdiv (F 20 wv)) + (F 21 wv)).tmod 16)) hC hM hs.2 rfl dX2_sineOf_25 ?_
  exact m_iret hC hQ hr hlk hM hS dX2_sineOf_26 (⟨(a0 _ hs.2.1 hs.2.2).symm, rfl, rfl⟩)
theorem dX2_seaIn_0 : decode cX2_seaIn 0 = .ok (.iconst 0, 1) := by decide +kernel
theorem dX2_seaIn_1 : decode cX2_seaIn 1 = .ok (.istore_n 2, 1) := by decide +kernel
theorem dX2_seaIn_2 : decode cX2_seaIn 2 = .ok (.iconst 0, 1) := by decide +kernel
theorem dX2_seaIn_3 : decode cX2_seaIn 3 = .ok (.istore_n 3, 1) := by decide +kernel
theorem dX2_seaIn_4 : decode cX2_seaIn 4 = .ok (.iload_n 3, 1) := by decide +kernel
theorem dX2_seaIn_5 : decode cX2_seaIn 5 = .ok (.aload_n 0, 1) := by decide +kernel
theorem dX2_seaIn_6 : decode cX2_seaIn 6 = .ok (.getfield 226, 3) := by decide +kernel
theorem dX2_seaIn_9 : decode cX2_seaIn 9 = .ok (.if_icmp .ge 29, 3) := by decide +kernel
theorem dX2_seaIn_12 : decode cX2_seaIn 12 = .ok (.iload_n 2, 1) := by decide +kernel
theorem dX2_seaIn_13 : decode cX2_seaIn 13 = .ok (.aload_n 0, 1) := by decide +kernel
theorem dX2_seaIn_14 : decode cX2_seaIn 14 = .ok (.getfield 53, 3) := by decide +kernel
theorem dX2_seaIn_17 : decode cX2_seaIn 17 = .ok (.iload_n 3, 1) := by decide +kernel
theorem dX2_seaIn_18 : decode cX2_seaIn 18 = .ok (.iaload, 1) := by decide +kernel
theorem dX2_seaIn_19 : decode cX2_seaIn 19 = .ok (.aload_n 0, 1) := by decide +kernel
theorem dX2_seaIn_20 : decode cX2_seaIn 20 = .ok (.iload_n 3, 1) := by decide +kernel
theorem dX2_seaIn_21 : decode cX2_seaIn 21 = .ok (.iload_n 1, 1) := by decide +kernel
theorem dX2_seaIn_22 : decode cX2_seaIn 22 = .ok (.invokevirtual 229, 3) := by decide +kernel
theorem dX2_seaIn_25 : decode cX2_seaIn 25 = .ok (.imul, 1) := by decide +kernel
theorem dX2_seaIn_26 : decode cX2_seaIn 26 = .ok (.sipush 1000, 3) := by decide +kernel
theorem dX2_seaIn_29 : decode cX2_seaIn 29 = .ok (.idiv, 1) := by decide +kernel
theorem dX2_seaIn_30 : decode cX2_seaIn 30 = .ok (.iadd, 1) := by decide +kernel
theorem dX2_seaIn_31 : decode cX2_seaIn 31 = .ok (.istore_n 2, 1) := by decide +kernel
theorem dX2_seaIn_32 : decode cX2_seaIn 32 = .ok (.iinc 3 1, 3) := by decide +kernel
theorem dX2_seaIn_35 : decode cX2_seaIn 35 = .ok (.goto (-31), 3) := by decide +kernel
theorem dX2_seaIn_38 : decode cX2_seaIn 38 = .ok (.iload_n 2, 1) := by decide +kernel
theorem dX2_seaIn_39 : decode cX2_seaIn 39 = .ok (.ireturn, 1) := by decide +kernel
set_option maxHeartbeats 4000000 in
theorem met_seaIn (l : Launch) (D : va_G) (E : Nat → ClassId) (A : Nat → Prop) (h : Nat) (ad : Nat → Nat) (I : Nat → Int) (F : Nat → Int → Int) (t : Int) (ht : 0 ≤ t ∧ t ≤ 100000) (gs0 : gSea I F) : MM l yX2_seaIn cX2_seaIn 4 (some .int) (mrm 1) D E A h ad [.int (iI t)] I F (MQi D E A h ad (fun z I1 F1 => seaS (I 18) (F 19) (F 20) (F 21) t = z ∧ I = I1 ∧ F = F1)) := by
  refine m_start (by decide) rfl (Nat.le_of_ble_eq_true rfl) ?_
  intro p e R s m args below meth c ls Q hR hQ hC hml hr hlk hM hS hl
  have hx := hC.1
  have hb := hC.2.1
  have hown := hC.2.2.1
  have hts := hC.2.2.2.1
  have hl : lv_has ls 4 [(0, .ref h), (1, .int (iI t))] := hl
  obtain ⟨i18, a0, a19, a20, a21⟩ := id gs0
  refine r_iconst hx hb dX2_seaIn_0 ?_
  refine lv_istore_n (lv' := [(2, .int (iI 0)), (0, .ref h), (1, .int (iI t))]) hx hb dX2_seaIn_1 rfl hl (by decide) rfl (fun ls hl => ?_)
  refine r_iconst hx hb dX2_seaIn_2 ?_
  refine lv_istore_n (lv' := [(3, .int (iI 0)), (2, .int (iI 0)), (0, .ref h), (1, .int (iI t))]) hx hb dX2_seaIn_3 rfl hl (by decide) rfl (fun ls hl => ?_)
  have loop4_1 : ∀ (n : Nat) (x k : Int), I 18 - k < (n : Int) → x = sm (fun w => (F 19 w * sineS (F 20 w) (F 21 w) t).tdiv 1000) k → 0 ≤ k → k ≤ I 18 → ∀ (H : Heap) (locs : List Loc) (ls : Array Slot), MW D E A h ad I F H → va_S A s.heap H locs → lv_has ls 4 [(3, .int (iI k)), (2, .int (iI x)), (0, .ref h), (1, .int (iI t))] → W p l e R s m args below meth c H locs 0 0 Q (F0 m 4 ls []) := by
    intro n
    induction n with
    | zero => intro x k hn3 ex hk0 hk1; exfalso; omega
    | succ n ih2 =>
      intro x k hn3 ex hk0 hk1 H locs ls hM hS hl
      refine lv_iload_n hx hb dX2_seaIn_4 rfl (lv_at hl 0 rfl) ?_
      refine lv_aload_n hx hb dX2_seaIn_5 rfl (lv_at hl 2 rfl) ?_
      refine mg_18 (v := I 18) hC hM rfl dX2_seaIn_6 ?_
      refine r_icmp_ge (tgt := 38) hx hb dX2_seaIn_9 (by decide) (by omega) (by omega) (fun c4 => ?_) (fun c4 => ?_)
      · have ek : k = I 18 := by omega
        refine lv_iload_n hx hb dX2_seaIn_38 rfl (lv_at hl 1 rfl) ?_
        exact m_iret hC hQ hr hlk hM hS dX2_seaIn_39 (⟨by unfold seaS; rw [ex, ek], rfl, rfl⟩)
      · refine lv_iload_n hx hb dX2_seaIn_12 rfl (lv_at hl 1 rfl) ?_
        refine lv_aload_n hx hb dX2_seaIn_13 rfl (lv_at hl 2 rfl) ?_
        refine mg_19 hC hM dX2_seaIn_14 ?_
        refine lv_iload_n hx hb dX2_seaIn_17 rfl (lv_at hl 0 rfl) ?_
        refine ml_19 (v := F 19 k) hC hM (by omega) rfl dX2_seaIn_18 ?_
        refine lv_aload_n hx hb dX2_seaIn_19 rfl (lv_at hl 2 rfl) ?_
        refine lv_iload_n hx hb dX2_seaIn_20 rfl (lv_at hl 0 rfl) ?_
        refine lv_iload_n hx hb dX2_seaIn_21 rfl (lv_at hl 3 rfl) ?_
        refine m_calli (kX2_sineOf (rest := [.int (iI (F 19 k)), .int (iI x)]) (as := [.int (iI k), .int (iI t)]) hC hml (met_sineOf l D E A h ad I F k t (by omega) (by omega) gs0) ⟨rfl, rfl⟩ hR (by decide) hM rfl hl.1 rfl (Nat.le_of_ble_eq_true rfl) dX2_seaIn_22) hS (fun z5 I6 F7 H locs hp8 hM hS => ?_)
        obtain ⟨rfl, rfl, rfl⟩ := hp8
        refine r_imul hx hb dX2_seaIn_25 ?_
        refine r_sipush hx hb dX2_seaIn_26 (by decide) ?_
        have b19 := a19 k (by omega) (by omega)
        have hmb := mul_bd (A := 60) (B := 1000) (a := F 19 k) (b := sineS (F 20 k) (F 21 k) t) (by omega) (sin16_bd _)
        refine r_idiv hx hb dX2_seaIn_29 (by omega) (by decide) (by decide) ?_
        refine r_iadd hx hb dX2_seaIn_30 ?_
        refine lv_istore_n (lv' := [(2, .int (iI (x + (((F 19 k) * (sineS (F 20 k) (F 21 k) t)).tdiv 1000)))), (3, .int (iI k)), (0, .ref h), (1, .int (iI t))]) hx hb dX2_seaIn_31 rfl hl (by decide) rfl (fun ls hl => ?_)
        refine lv_iinc (v := iI (k + 1)) (lv' := [(3, .int (iI (k + 1))), (2, .int (iI (x + (((F 19 k) * (sineS (F 20 k) (F 21 k) t)).tdiv 1000)))), (0, .ref h), (1, .int (iI t))]) hx hb dX2_seaIn_32 hl (k := 1) rfl (iI_add _ _) (by decide) rfl (fun ls hl => ?_)
        refine lv_goto (tgt := 4) hx hb dX2_seaIn_35 (by decide) ?_
        exact ih2 (x + (((F 19 k) * (sineS (F 20 k) (F 21 k) t)).tdiv 1000)) (k + 1) (by omega) (by rw [ex, sm_s _ hk0]) (by omega) (by omega) _ _ _ hM hS (lv_sub hl [0, 1, 2, 3] rfl)
  exact loop4_1 ((I 18 - 0 : Int).toNat + 1) 0 0 (by omega) rfl (by omega) (by omega) _ _ _ hM hS (lv_sub hl [0, 1, 2, 3] rfl)
theorem dX2_sea_0 : decode cX2_sea 0 = .ok (.iload_n 1, 1) := by decide +kernel
theorem dX2_sea_1 : decode cX2_sea 1 = .ok (.iconst 0, 1) := by decide +kernel
theorem dX2_sea_2 : decode cX2_sea 2 = .ok (.sipush 599, 3) := by decide +kernel
theorem dX2_sea_5 : decode cX2_sea 5 = .ok (.invokestatic 173, 3) := by decide +kernel
theorem dX2_sea_8 : decode cX2_sea 8 = .ok (.ifCond .eq 11, 3) := by decide +kernel
theorem dX2_sea_11 : decode cX2_sea 11 = .ok (.aload_n 0, 1) := by decide +kernel
theorem dX2_sea_12 : decode cX2_sea 12 = .ok (.iload_n 1, 1) := by decide +kernel
theorem dX2_sea_13 : decode cX2_sea 13 = .ok (.invokevirtual 233, 3) := by decide +kernel
theorem dX2_sea_16 : decode cX2_sea 16 = .ok (.goto 5, 3) := by decide +kernel
theorem dX2_sea_19 : decode cX2_sea 19 = .ok (.ldc 205, 2) := by decide +kernel
theorem dX2_sea_21 : decode cX2_sea 21 = .ok (.ireturn, 1) := by decide +kernel
set_option maxHeartbeats 4000000 in
theorem met_sea (l : Launch) (D : va_G) (E : Nat → ClassId) (A : Nat → Prop) (h : Nat) (ad : Nat → Nat) (I : Nat → Int) (F : Nat → Int → Int) (t : Int) (r_t : R32 t) (gs0 : gSea I F) : MM l yX2_sea cX2_sea 2 (some .int) (mrm 2) D E A h ad [.int (iI t)] I F (MQi D E A h ad (fun z I1 F1 => (if 0 ≤ t ∧ t ≤ 599 then seaS (I 18) (F 19) (F 20) (F 21) t else -2147483648) = z ∧ I = I1 ∧ F = F1)) := by
  refine m_start (by decide) rfl (Nat.le_of_ble_eq_true rfl) ?_
  intro p e R s m args below meth c ls Q hR hQ hC hml hr hlk hM hS hl
  have hx := hC.1
  have hb := hC.2.1
  have hown := hC.2.2.1
  have hts := hC.2.2.2.1
  have hl : lv_has ls 2 [(0, .ref h), (1, .int (iI t))] := hl
  refine lv_iload_n hx hb dX2_sea_0 rfl (lv_at hl 1 rfl) ?_
  refine r_iconst hx hb dX2_sea_1 ?_
  refine r_sipush hx hb dX2_sea_2 (by decide) ?_
  refine s_calli (kX2_X2_in (rest := []) (as := [.int (iI t), .int (iI 0), .int (iI 599)]) hx hb hml hown hts (met_in l t 0 599 r_t (by decide) (by decide)) ⟨rfl, rfl⟩ hR (by decide) rfl hl.1 rfl (Nat.le_of_ble_eq_true rfl) dX2_sea_5) ?_
  refine r_ifeqB (tgt := 19) hx hb dX2_sea_8 (by decide) (fun c1 => ?_) (fun c1 => ?_)
  · refine r_ldc hx hb (-2147483648) hown (hts _ q1289) (by decide) dX2_sea_19 ?_
    exact m_iret hC hQ hr hlk hM hS dX2_sea_21 (⟨if_neg (by omega), rfl, rfl⟩)
  · refine lv_aload_n hx hb dX2_sea_11 rfl (lv_at hl 0 rfl) ?_
    refine lv_iload_n hx hb dX2_sea_12 rfl (lv_at hl 1 rfl) ?_
    refine m_calli (kX2_seaIn (rest := []) (as := [.int (iI t)]) hC hml (met_seaIn l D E A h ad I F t (by omega) gs0) ⟨rfl, rfl⟩ hR (by decide) hM rfl hl.1 rfl (Nat.le_of_ble_eq_true rfl) dX2_sea_13) hS (fun z2 I3 F4 H locs hp5 hM hS => ?_)
    obtain ⟨rfl, rfl, rfl⟩ := hp5
    refine lv_goto (tgt := 21) hx hb dX2_sea_16 (by decide) ?_
    exact m_iret hC hQ hr hlk hM hS dX2_sea_21 (⟨if_pos (by omega), rfl, rfl⟩)
theorem dX2_kept_0 : decode cX2_kept 0 = .ok (.iload_n 1, 1) := by decide +kernel
theorem dX2_kept_1 : decode cX2_kept 1 = .ok (.iconst 0, 1) := by decide +kernel
theorem dX2_kept_2 : decode cX2_kept 2 = .ok (.aload_n 0, 1) := by decide +kernel
theorem dX2_kept_3 : decode cX2_kept 3 = .ok (.getfield 254, 3) := by decide +kernel
theorem dX2_kept_6 : decode cX2_kept 6 = .ok (.iconst 1, 1) := by decide +kernel
theorem dX2_kept_7 : decode cX2_kept 7 = .ok (.isub, 1) := by decide +kernel
theorem dX2_kept_8 : decode cX2_kept 8 = .ok (.invokestatic 173, 3) := by decide +kernel
theorem dX2_kept_11 : decode cX2_kept 11 = .ok (.ifCond .eq 12, 3) := by decide +kernel
theorem dX2_kept_14 : decode cX2_kept 14 = .ok (.iload_n 2, 1) := by decide +kernel
theorem dX2_kept_15 : decode cX2_kept 15 = .ok (.iconst 0, 1) := by decide +kernel
theorem dX2_kept_16 : decode cX2_kept 16 = .ok (.iconst 2, 1) := by decide +kernel
theorem dX2_kept_17 : decode cX2_kept 17 = .ok (.invokestatic 173, 3) := by decide +kernel
theorem dX2_kept_20 : decode cX2_kept 20 = .ok (.ifCond .ne 6, 3) := by decide +kernel
theorem dX2_kept_23 : decode cX2_kept 23 = .ok (.ldc 205, 2) := by decide +kernel
theorem dX2_kept_25 : decode cX2_kept 25 = .ok (.ireturn, 1) := by decide +kernel
theorem dX2_kept_26 : decode cX2_kept 26 = .ok (.iload_n 2, 1) := by decide +kernel
theorem dX2_kept_27 : decode cX2_kept 27 = .ok (.ifCond .ne 12, 3) := by decide +kernel
theorem dX2_kept_30 : decode cX2_kept 30 = .ok (.aload_n 0, 1) := by decide +kernel
theorem dX2_kept_31 : decode cX2_kept 31 = .ok (.getfield 99, 3) := by decide +kernel
theorem dX2_kept_34 : decode cX2_kept 34 = .ok (.iload_n 1, 1) := by decide +kernel
theorem dX2_kept_35 : decode cX2_kept 35 = .ok (.iaload, 1) := by decide +kernel
theorem dX2_kept_36 : decode cX2_kept 36 = .ok (.goto 23, 3) := by decide +kernel
theorem dX2_kept_39 : decode cX2_kept 39 = .ok (.iload_n 2, 1) := by decide +kernel
theorem dX2_kept_40 : decode cX2_kept 40 = .ok (.iconst 1, 1) := by decide +kernel
theorem dX2_kept_41 : decode cX2_kept 41 = .ok (.if_icmp .ne 12, 3) := by decide +kernel
theorem dX2_kept_44 : decode cX2_kept 44 = .ok (.aload_n 0, 1) := by decide +kernel
theorem dX2_kept_45 : decode cX2_kept 45 = .ok (.getfield 102, 3) := by decide +kernel
theorem dX2_kept_48 : decode cX2_kept 48 = .ok (.iload_n 1, 1) := by decide +kernel
theorem dX2_kept_49 : decode cX2_kept 49 = .ok (.iaload, 1) := by decide +kernel
theorem dX2_kept_50 : decode cX2_kept 50 = .ok (.goto 9, 3) := by decide +kernel
theorem dX2_kept_53 : decode cX2_kept 53 = .ok (.aload_n 0, 1) := by decide +kernel
theorem dX2_kept_54 : decode cX2_kept 54 = .ok (.getfield 105, 3) := by decide +kernel
theorem dX2_kept_57 : decode cX2_kept 57 = .ok (.iload_n 1, 1) := by decide +kernel
theorem dX2_kept_58 : decode cX2_kept 58 = .ok (.iaload, 1) := by decide +kernel
theorem dX2_kept_59 : decode cX2_kept 59 = .ok (.ireturn, 1) := by decide +kernel
set_option maxHeartbeats 4000000 in
theorem met_kept (l : Launch) (D : va_G) (E : Nat → ClassId) (A : Nat → Prop) (h : Nat) (ad : Nat → Nat) (I : Nat → Int) (F : Nat → Int → Int) (t wh : Int) (r_t : R32 t) (r_w : R32 wh) (gl : gKept I F) : MM l yX2_kept cX2_kept 3 (some .int) (mrm 1) D E A h ad [.int (iI t), .int (iI wh)] I F (MQi D E A h ad (fun z I1 F1 => (if (0 ≤ t ∧ t < I 26) ∧ (0 ≤ wh ∧ wh ≤ 2) then (if wh = 0 then F 36 t else if wh = 1 then F 37 t else F 38 t) else -2147483648) = z ∧ I = I1 ∧ F = F1)) := by
  refine m_start (by decide) rfl (Nat.le_of_ble_eq_true rfl) ?_
  intro p e R s m args below meth c ls Q hR hQ hC hml hr hlk hM hS hl
  have hx := hC.1
  have hb := hC.2.1
  have hown := hC.2.2.1
  have hts := hC.2.2.2.1
  have hl : lv_has ls 3 [(0, .ref h), (1, .int (iI t)), (2, .int (iI wh))] := hl
  obtain ⟨i26, a36, a37, a38, a39, a40⟩ := gl
  refine lv_iload_n hx hb dX2_kept_0 rfl (lv_at hl 1 rfl) ?_
  refine r_iconst hx hb dX2_kept_1 ?_
  refine lv_aload_n hx hb dX2_kept_2 rfl (lv_at hl 0 rfl) ?_
  refine mg_26 (v := I 26) hC hM rfl dX2_kept_3 ?_
  refine r_iconst hx hb dX2_kept_6 ?_
  refine r_isub hx hb dX2_kept_7 ?_
  refine s_calli (kX2_X2_in (rest := []) (as := [.int (iI t), .int (iI 0), .int (iI ((I 26) - 1))]) hx hb hml hown hts (met_in l t 0 ((I 26) - 1) r_t (by decide) (by omega)) ⟨rfl, rfl⟩ hR (by decide) rfl hl.1 rfl (Nat.le_of_ble_eq_true rfl) dX2_kept_8) ?_
  refine r_ifeqB (tgt := 23) hx hb dX2_kept_11 (by decide) (fun c1 => ?_) (fun c1 => ?_)
  · refine r_ldc hx hb (-2147483648) hown (hts _ q1289) (by decide) dX2_kept_23 ?_
    exact m_iret hC hQ hr hlk hM hS dX2_kept_25 (⟨if_neg (by omega), rfl, rfl⟩)
  · refine lv_iload_n hx hb dX2_kept_14 rfl (lv_at hl 2 rfl) ?_
    refine r_iconst hx hb dX2_kept_15 ?_
    refine r_iconst hx hb dX2_kept_16 ?_
    refine s_calli (kX2_X2_in (rest := []) (as := [.int (iI wh), .int (iI 0), .int (iI 2)]) hx hb hml hown hts (met_in l wh 0 2 r_w (by decide) (by decide)) ⟨rfl, rfl⟩ hR (by decide) rfl hl.1 rfl (Nat.le_of_ble_eq_true rfl) dX2_kept_17) ?_
    refine r_ifneB (tgt := 26) hx hb dX2_kept_20 (by decide) (fun c2 => ?_) (fun c2 => ?_)
    · refine lv_iload_n hx hb dX2_kept_26 rfl (lv_at hl 2 rfl) ?_
      refine r_if_ne (tgt := 39) hx hb dX2_kept_27 (by decide) r_w (fun c3 => ?_) (fun c3 => ?_)
      · refine lv_iload_n hx hb dX2_kept_39 rfl (lv_at hl 2 rfl) ?_
        refine r_iconst hx hb dX2_kept_40 ?_
        refine r_icmp_ne (tgt := 53) hx hb dX2_kept_41 (by decide) r_w (by decide) (fun c4 => ?_) (fun c4 => ?_)
        · refine lv_aload_n hx hb dX2_kept_53 rfl (lv_at hl 0 rfl) ?_
          refine mg_38 hC hM dX2_kept_54 ?_
          refine lv_iload_n hx hb dX2_kept_57 rfl (lv_at hl 1 rfl) ?_
          refine ml_38 (v := F 38 t) hC hM (by omega) rfl dX2_kept_58 ?_
          exact m_iret hC hQ hr hlk hM hS dX2_kept_59 (⟨by rw [if_pos (by omega)]; split <;> (try split) <;> first | rfl | omega, rfl, rfl⟩)
        · refine lv_aload_n hx hb dX2_kept_44 rfl (lv_at hl 0 rfl) ?_
          refine mg_37 hC hM dX2_kept_45 ?_
          refine lv_iload_n hx hb dX2_kept_48 rfl (lv_at hl 1 rfl) ?_
          refine ml_37 (v := F 37 t) hC hM (by omega) rfl dX2_kept_49 ?_
          refine lv_goto (tgt := 59) hx hb dX2_kept_50 (by decide) ?_
          exact m_iret hC hQ hr hlk hM hS dX2_kept_59 (⟨by rw [if_pos (by omega)]; split <;> (try split) <;> first | rfl | omega, rfl, rfl⟩)
      · refine lv_aload_n hx hb dX2_kept_30 rfl (lv_at hl 0 rfl) ?_
        refine mg_36 hC hM dX2_kept_31 ?_
        refine lv_iload_n hx hb dX2_kept_34 rfl (lv_at hl 1 rfl) ?_
        refine ml_36 (v := F 36 t) hC hM (by omega) rfl dX2_kept_35 ?_
        refine lv_goto (tgt := 59) hx hb dX2_kept_36 (by decide) ?_
        exact m_iret hC hQ hr hlk hM hS dX2_kept_59 (⟨by rw [if_pos (by omega)]; split <;> (try split) <;> first | rfl | omega, rfl, rfl⟩)
    · refine r_ldc hx hb (-2147483648) hown (hts _ q1289) (by decide) dX2_kept_23 ?_
      exact m_iret hC hQ hr hlk hM hS dX2_kept_25 (⟨if_neg (by omega), rfl, rfl⟩)
theorem dX2_lead_0 : decode cX2_lead 0 = .ok (.iload_n 1, 1) := by decide +kernel
theorem dX2_lead_1 : decode cX2_lead 1 = .ok (.iconst 0, 1) := by decide +kernel
theorem dX2_lead_2 : decode cX2_lead 2 = .ok (.iconst 3, 1) := by decide +kernel
theorem dX2_lead_3 : decode cX2_lead 3 = .ok (.invokestatic 173, 3) := by decide +kernel
theorem dX2_lead_6 : decode cX2_lead 6 = .ok (.ifCond .eq 12, 3) := by decide +kernel
theorem dX2_lead_9 : decode cX2_lead 9 = .ok (.aload_n 0, 1) := by decide +kernel
theorem dX2_lead_10 : decode cX2_lead 10 = .ok (.getfield 96, 3) := by decide +kernel
theorem dX2_lead_13 : decode cX2_lead 13 = .ok (.iload_n 1, 1) := by decide +kernel
theorem dX2_lead_14 : decode cX2_lead 14 = .ok (.iaload, 1) := by decide +kernel
theorem dX2_lead_15 : decode cX2_lead 15 = .ok (.goto 5, 3) := by decide +kernel
theorem dX2_lead_18 : decode cX2_lead 18 = .ok (.ldc 205, 2) := by decide +kernel
theorem dX2_lead_20 : decode cX2_lead 20 = .ok (.ireturn, 1) := by decide +kernel
set_option maxHeartbeats 4000000 in
theorem met_lead (l : Launch) (D : va_G) (E : Nat → ClassId) (A : Nat → Prop) (h : Nat) (ad : Nat → Nat) (I : Nat → Int) (F : Nat → Int → Int) (k : Int) (r_k : R32 k) : MM l yX2_lead cX2_lead 2 (some .int) (mrm 1) D E A h ad [.int (iI k)] I F (MQi D E A h ad (fun z I1 F1 => (if 0 ≤ k ∧ k ≤ 3 then F 35 k else -2147483648) = z ∧ I = I1 ∧ F = F1)) := by
  refine m_start (by decide) rfl (Nat.le_of_ble_eq_true rfl) ?_
  intro p e R s m args below meth c ls Q hR hQ hC hml hr hlk hM hS hl
  have hx := hC.1
  have hb := hC.2.1
  have hown := hC.2.2.1
  have hts := hC.2.2.2.1
  have hl : lv_has ls 2 [(0, .ref h), (1, .int (iI k))] := hl
  refine lv_iload_n hx hb dX2_lead_0 rfl (lv_at hl 1 rfl) ?_
  refine r_iconst hx hb dX2_lead_1 ?_
  refine r_iconst hx hb dX2_lead_2 ?_
  refine s_calli (kX2_X2_in (rest := []) (as := [.int (iI k), .int (iI 0), .int (iI 3)]) hx hb hml hown hts (met_in l k 0 3 r_k (by decide) (by decide)) ⟨rfl, rfl⟩ hR (by decide) rfl hl.1 rfl (Nat.le_of_ble_eq_true rfl) dX2_lead_3) ?_
  refine r_ifeqB (tgt := 18) hx hb dX2_lead_6 (by decide) (fun c1 => ?_) (fun c1 => ?_)
  · refine r_ldc hx hb (-2147483648) hown (hts _ q1289) (by decide) dX2_lead_18 ?_
    exact m_iret hC hQ hr hlk hM hS dX2_lead_20 (⟨if_neg (by omega), rfl, rfl⟩)
  · refine lv_aload_n hx hb dX2_lead_9 rfl (lv_at hl 0 rfl) ?_
    refine mg_35 hC hM dX2_lead_10 ?_
    refine lv_iload_n hx hb dX2_lead_13 rfl (lv_at hl 1 rfl) ?_
    refine ml_35 (v := F 35 k) hC hM (by omega) rfl dX2_lead_14 ?_
    refine lv_goto (tgt := 20) hx hb dX2_lead_15 (by decide) ?_
    exact m_iret hC hQ hr hlk hM hS dX2_lead_20 (⟨if_pos (by omega), rfl, rfl⟩)
theorem dX2_place_0 : decode cX2_place 0 = .ok (.aload_n 0, 1) := by decide +kernel
theorem dX2_place_1 : decode cX2_place 1 = .ok (.iload_n 1, 1) := by decide +kernel
theorem dX2_place_2 : decode cX2_place 2 = .ok (.invokevirtual 184, 3) := by decide +kernel
theorem dX2_place_5 : decode cX2_place 5 = .ok (.ifCond .eq 12, 3) := by decide +kernel
theorem dX2_place_8 : decode cX2_place 8 = .ok (.aload_n 0, 1) := by decide +kernel
theorem dX2_place_9 : decode cX2_place 9 = .ok (.getfield 72, 3) := by decide +kernel
theorem dX2_place_12 : decode cX2_place 12 = .ok (.iload_n 1, 1) := by decide +kernel
theorem dX2_place_13 : decode cX2_place 13 = .ok (.iaload, 1) := by decide +kernel
theorem dX2_place_14 : decode cX2_place 14 = .ok (.goto 5, 3) := by decide +kernel
theorem dX2_place_17 : decode cX2_place 17 = .ok (.ldc 205, 2) := by decide +kernel
theorem dX2_place_19 : decode cX2_place 19 = .ok (.ireturn, 1) := by decide +kernel
set_option maxHeartbeats 4000000 in
theorem met_place (l : Launch) (D : va_G) (E : Nat → ClassId) (A : Nat → Prop) (h : Nat) (ad : Nat → Nat) (I : Nat → Int) (F : Nat → Int → Int) (wt : Int) (r_w : R32 wt) (gl0 : gLoad I F) : MM l yX2_place cX2_place 2 (some .int) (mrm 2) D E A h ad [.int (iI wt)] I F (MQi D E A h ad (fun z I1 F1 => (if 0 ≤ wt ∧ wt < I 4 ∧ F 9 wt = 0 then F 27 wt else -2147483648) = z ∧ I = I1 ∧ F = F1)) := by
  refine m_start (by decide) rfl (Nat.le_of_ble_eq_true rfl) ?_
  intro p e R s m args below meth c ls Q hR hQ hC hml hr hlk hM hS hl
  have hx := hC.1
  have hb := hC.2.1
  have hown := hC.2.2.1
  have hts := hC.2.2.2.1
  have hl : lv_has ls 2 [(0, .ref h), (1, .int (iI wt))] := hl
  obtain ⟨i4, a5, a6, a7, a8, a9, i10, a11, a12, a13, a14, a14h⟩ := id gl0
  refine lv_aload_n hx hb dX2_place_0 rfl (lv_at hl 0 rfl) ?_
  refine lv_iload_n hx hb dX2_place_1 rfl (lv_at hl 1 rfl) ?_
  refine m_calli (kX2_isWeight (rest := []) (as := [.int (iI wt)]) hC hml (met_isWeight l D E A h ad I F wt r_w gl0) ⟨rfl, rfl⟩ hR (by decide) hM rfl hl.1 rfl (Nat.le_of_ble_eq_true rfl) dX2_place_2) hS (fun z1 I2 F3 H locs hp4 hM hS => ?_)
  obtain ⟨rfl, rfl, rfl⟩ := hp4
  refine r_ifeqB (tgt := 17) hx hb dX2_place_5 (by decide) (fun c5 => ?_) (fun c5 => ?_)
  · refine r_ldc hx hb (-2147483648) hown (hts _ q1289) (by decide) dX2_place_17 ?_
    exact m_iret hC hQ hr hlk hM hS dX2_place_19 (⟨if_neg (by omega), rfl, rfl⟩)
  · refine lv_aload_n hx hb dX2_place_8 rfl (lv_at hl 0 rfl) ?_
    refine mg_27 hC hM dX2_place_9 ?_
    refine lv_iload_n hx hb dX2_place_12 rfl (lv_at hl 1 rfl) ?_
    refine ml_27 (v := F 27 wt) hC hM (by omega) rfl dX2_place_13 ?_
    refine lv_goto (tgt := 19) hx hb dX2_place_14 (by decide) ?_
    exact m_iret hC hQ hr hlk hM hS dX2_place_19 (⟨if_pos (by omega), rfl, rfl⟩)
theorem dX2_wetted_0 : decode cX2_wetted 0 = .ok (.iload_n 1, 1) := by decide +kernel
theorem dX2_wetted_1 : decode cX2_wetted 1 = .ok (.iconst 0, 1) := by decide +kernel
theorem dX2_wetted_2 : decode cX2_wetted 2 = .ok (.aload_n 0, 1) := by decide +kernel
theorem dX2_wetted_3 : decode cX2_wetted 3 = .ok (.getfield 191, 3) := by decide +kernel
theorem dX2_wetted_6 : decode cX2_wetted 6 = .ok (.iconst 1, 1) := by decide +kernel
theorem dX2_wetted_7 : decode cX2_wetted 7 = .ok (.isub, 1) := by decide +kernel
theorem dX2_wetted_8 : decode cX2_wetted 8 = .ok (.invokestatic 173, 3) := by decide +kernel
theorem dX2_wetted_11 : decode cX2_wetted 11 = .ok (.ifCond .eq 12, 3) := by decide +kernel
theorem dX2_wetted_14 : decode cX2_wetted 14 = .ok (.aload_n 0, 1) := by decide +kernel
theorem dX2_wetted_15 : decode cX2_wetted 15 = .ok (.getfield 93, 3) := by decide +kernel
theorem dX2_wetted_18 : decode cX2_wetted 18 = .ok (.iload_n 1, 1) := by decide +kernel
theorem dX2_wetted_19 : decode cX2_wetted 19 = .ok (.iaload, 1) := by decide +kernel
theorem dX2_wetted_20 : decode cX2_wetted 20 = .ok (.goto 4, 3) := by decide +kernel
theorem dX2_wetted_23 : decode cX2_wetted 23 = .ok (.iconst (-1), 1) := by decide +kernel
theorem dX2_wetted_24 : decode cX2_wetted 24 = .ok (.ireturn, 1) := by decide +kernel
set_option maxHeartbeats 4000000 in
theorem met_wetted (l : Launch) (D : va_G) (E : Nat → ClassId) (A : Nat → Prop) (h : Nat) (ad : Nat → Nat) (I : Nat → Int) (F : Nat → Int → Int) (mk : Int) (r_m : R32 mk) (gl : gMark I F) : MM l yX2_wetted cX2_wetted 2 (some .int) (mrm 1) D E A h ad [.int (iI mk)] I F (MQi D E A h ad (fun z I1 F1 => (if 0 ≤ mk ∧ mk < I 15 then F 34 mk else -1) = z ∧ I = I1 ∧ F = F1)) := by
  refine m_start (by decide) rfl (Nat.le_of_ble_eq_true rfl) ?_
  intro p e R s m args below meth c ls Q hR hQ hC hml hr hlk hM hS hl
  have hx := hC.1
  have hb := hC.2.1
  have hown := hC.2.2.1
  have hts := hC.2.2.2.1
  have hl : lv_has ls 2 [(0, .ref h), (1, .int (iI mk))] := hl
  obtain ⟨i15, a16, a17⟩ := gl
  refine lv_iload_n hx hb dX2_wetted_0 rfl (lv_at hl 1 rfl) ?_
  refine r_iconst hx hb dX2_wetted_1 ?_
  refine lv_aload_n hx hb dX2_wetted_2 rfl (lv_at hl 0 rfl) ?_
  refine mg_15 (v := I 15) hC hM rfl dX2_wetted_3 ?_
  refine r_iconst hx hb dX2_wetted_6 ?_
  refine r_isub hx hb dX2_wetted_7 ?_
  refine s_calli (kX2_X2_in (rest := []) (as := [.int (iI mk), .int (iI 0), .int (iI ((I 15) - 1))]) hx hb hml hown hts (met_in l mk 0 ((I 15) - 1) r_m (by decide) (by omega)) ⟨rfl, rfl⟩ hR (by decide) rfl hl.1 rfl (Nat.le_of_ble_eq_true rfl) dX2_wetted_8) ?_
  refine r_ifeqB (tgt := 23) hx hb dX2_wetted_11 (by decide) (fun c1 => ?_) (fun c1 => ?_)
  · refine r_iconst hx hb dX2_wetted_23 ?_
    exact m_iret hC hQ hr hlk hM hS dX2_wetted_24 (⟨if_neg (by omega), rfl, rfl⟩)
  · refine lv_aload_n hx hb dX2_wetted_14 rfl (lv_at hl 0 rfl) ?_
    refine mg_34 hC hM dX2_wetted_15 ?_
    refine lv_iload_n hx hb dX2_wetted_18 rfl (lv_at hl 1 rfl) ?_
    refine ml_34 (v := F 34 mk) hC hM (by omega) rfl dX2_wetted_19 ?_
    refine lv_goto (tgt := 24) hx hb dX2_wetted_20 (by decide) ?_
    exact m_iret hC hQ hr hlk hM hS dX2_wetted_24 (⟨if_pos (by omega), rfl, rfl⟩)
theorem dX2_count_0 : decode cX2_count 0 = .ok (.iload_n 1, 1) := by decide +kernel
theorem dX2_count_1 : decode cX2_count 1 = .ok (.tableswitch 146 0 12 #[67, 72, 77, 82, 87, 92, 97, 102, 109, 116, 131, 136, 141], 67) := by decide +kernel
theorem dX2_count_68 : decode cX2_count 68 = .ok (.aload_n 0, 1) := by decide +kernel
theorem dX2_count_69 : decode cX2_count 69 = .ok (.getfield 254, 3) := by decide +kernel
theorem dX2_count_72 : decode cX2_count 72 = .ok (.ireturn, 1) := by decide +kernel
theorem dX2_count_73 : decode cX2_count 73 = .ok (.aload_n 0, 1) := by decide +kernel
theorem dX2_count_74 : decode cX2_count 74 = .ok (.getfield 178, 3) := by decide +kernel
theorem dX2_count_77 : decode cX2_count 77 = .ok (.ireturn, 1) := by decide +kernel
theorem dX2_count_78 : decode cX2_count 78 = .ok (.aload_n 0, 1) := by decide +kernel
theorem dX2_count_79 : decode cX2_count 79 = .ok (.getfield 181, 3) := by decide +kernel
theorem dX2_count_82 : decode cX2_count 82 = .ok (.ireturn, 1) := by decide +kernel
theorem dX2_count_83 : decode cX2_count 83 = .ok (.aload_n 0, 1) := by decide +kernel
theorem dX2_count_84 : decode cX2_count 84 = .ok (.getfield 188, 3) := by decide +kernel
theorem dX2_count_87 : decode cX2_count 87 = .ok (.ireturn, 1) := by decide +kernel
theorem dX2_count_88 : decode cX2_count 88 = .ok (.aload_n 0, 1) := by decide +kernel
theorem dX2_count_89 : decode cX2_count 89 = .ok (.getfield 226, 3) := by decide +kernel
theorem dX2_count_92 : decode cX2_count 92 = .ok (.ireturn, 1) := by decide +kernel
theorem dX2_count_93 : decode cX2_count 93 = .ok (.aload_n 0, 1) := by decide +kernel
theorem dX2_count_94 : decode cX2_count 94 = .ok (.getfield 191, 3) := by decide +kernel
theorem dX2_count_97 : decode cX2_count 97 = .ok (.ireturn, 1) := by decide +kernel
theorem dX2_count_98 : decode cX2_count 98 = .ok (.aload_n 0, 1) := by decide +kernel
theorem dX2_count_99 : decode cX2_count 99 = .ok (.getfield 260, 3) := by decide +kernel
theorem dX2_count_102 : decode cX2_count 102 = .ok (.ireturn, 1) := by decide +kernel
theorem dX2_count_103 : decode cX2_count 103 = .ok (.aload_n 0, 1) := by decide +kernel
theorem dX2_count_104 : decode cX2_count 104 = .ok (.getfield 81, 3) := by decide +kernel
theorem dX2_count_107 : decode cX2_count 107 = .ok (.iconst 0, 1) := by decide +kernel
theorem dX2_count_108 : decode cX2_count 108 = .ok (.iaload, 1) := by decide +kernel
theorem dX2_count_109 : decode cX2_count 109 = .ok (.ireturn, 1) := by decide +kernel
theorem dX2_count_110 : decode cX2_count 110 = .ok (.aload_n 0, 1) := by decide +kernel
theorem dX2_count_111 : decode cX2_count 111 = .ok (.getfield 84, 3) := by decide +kernel
theorem dX2_count_114 : decode cX2_count 114 = .ok (.iconst 0, 1) := by decide +kernel
theorem dX2_count_115 : decode cX2_count 115 = .ok (.iaload, 1) := by decide +kernel
theorem dX2_count_116 : decode cX2_count 116 = .ok (.ireturn, 1) := by decide +kernel
theorem dX2_count_117 : decode cX2_count 117 = .ok (.aload_n 0, 1) := by decide +kernel
theorem dX2_count_118 : decode cX2_count 118 = .ok (.getfield 87, 3) := by decide +kernel
theorem dX2_count_121 : decode cX2_count 121 = .ok (.iconst 0, 1) := by decide +kernel
theorem dX2_count_122 : decode cX2_count 122 = .ok (.baload, 1) := by decide +kernel
theorem dX2_count_123 : decode cX2_count 123 = .ok (.ifCond .eq 7, 3) := by decide +kernel
theorem dX2_count_126 : decode cX2_count 126 = .ok (.iconst 1, 1) := by decide +kernel
theorem dX2_count_127 : decode cX2_count 127 = .ok (.goto 4, 3) := by decide +kernel
theorem dX2_count_130 : decode cX2_count 130 = .ok (.iconst 0, 1) := by decide +kernel
theorem dX2_count_131 : decode cX2_count 131 = .ok (.ireturn, 1) := by decide +kernel
theorem dX2_count_132 : decode cX2_count 132 = .ok (.aload_n 0, 1) := by decide +kernel
theorem dX2_count_133 : decode cX2_count 133 = .ok (.getfield 368, 3) := by decide +kernel
theorem dX2_count_136 : decode cX2_count 136 = .ok (.ireturn, 1) := by decide +kernel
theorem dX2_count_137 : decode cX2_count 137 = .ok (.aload_n 0, 1) := by decide +kernel
theorem dX2_count_138 : decode cX2_count 138 = .ok (.getfield 377, 3) := by decide +kernel
theorem dX2_count_141 : decode cX2_count 141 = .ok (.ireturn, 1) := by decide +kernel
theorem dX2_count_142 : decode cX2_count 142 = .ok (.aload_n 0, 1) := by decide +kernel
theorem dX2_count_143 : decode cX2_count 143 = .ok (.invokevirtual 201, 3) := by decide +kernel
theorem dX2_count_146 : decode cX2_count 146 = .ok (.ireturn, 1) := by decide +kernel
theorem dX2_count_147 : decode cX2_count 147 = .ok (.iconst (-1), 1) := by decide +kernel
theorem dX2_count_148 : decode cX2_count 148 = .ok (.ireturn, 1) := by decide +kernel
set_option maxHeartbeats 4000000 in
theorem met_count (l : Launch) (D : va_G) (E : Nat → ClassId) (A : Nat → Prop) (h : Nat) (ad : Nat → Nat) (I : Nat → Int) (F : Nat → Int → Int) (wh : Int) (r_w : R32 wh) (gl0 : gLoad I F) (b32 : 0 ≤ F 32 0 ∧ F 32 0 ≤ 1) : MM l yX2_count cX2_count 2 (some .int) (mrm 1) D E A h ad [.int (iI wh)] I F (MQi D E A h ad (fun z I1 F1 => (if wh = 0 then I 26 else if wh = 1 then I 1 else if wh = 2 then I 4 else if wh = 3 then I 10 else if wh = 4 then I 18 else if wh = 5 then I 15 else if wh = 6 then I 48 else if wh = 7 then F 30 0 else if wh = 8 then F 31 0 else if wh = 9 then (if F 32 0 = 0 then 0 else 1) else if wh = 10 then I 41 else if wh = 11 then I 45 else if wh = 12 then heavyS (I 4) (F 9) (F 5) (I 10) (F 14) else -1) = z ∧ I = I1 ∧ F = F1)) := by
  refine m_start (by decide) rfl (Nat.le_of_ble_eq_true rfl) ?_
  intro p e R s m args below meth c ls Q hR hQ hC hml hr hlk hM hS hl
  have hx := hC.1
  have hb := hC.2.1
  have hown := hC.2.2.1
  have hts := hC.2.2.2.1
  have hl : lv_has ls 2 [(0, .ref h), (1, .int (iI wh))] := hl
  refine lv_iload_n hx hb dX2_count_0 rfl (lv_at hl 1 rfl) ?_
  rcases (show ((wh) < 0 ∨ 12 < (wh)) ∨ (wh) = 0 ∨ (wh) = 1 ∨ (wh) = 2 ∨ (wh) = 3 ∨ (wh) = 4 ∨ (wh) = 5 ∨ (wh) = 6 ∨ (wh) = 7 ∨ (wh) = 8 ∨ (wh) = 9 ∨ (wh) = 10 ∨ (wh) = 11 ∨ (wh) = 12 by omega) with hsw | rfl | rfl | rfl | rfl | rfl | rfl | rfl | rfl | rfl | rfl | rfl | rfl | rfl
  · refine lv_tableOut (tgt := 147) hx hb dX2_count_1 (by rw [iI_toInt (by omega)]; exact hsw) (by decide) ?_
    refine r_iconst hx hb dX2_count_147 ?_
    exact m_iret hC hQ hr hlk hM hS dX2_count_148 (⟨by repeat rw [if_neg (by omega)], rfl, rfl⟩)
  · refine lv_tableIn (tgt := 68) (off := 67) hx hb dX2_count_1 (by decide) (by decide) (by decide) (by decide) ?_
    refine lv_aload_n hx hb dX2_count_68 rfl (lv_at hl 0 rfl) ?_
    refine mg_26 (v := I 26) hC hM rfl dX2_count_69 ?_
    exact m_iret hC hQ hr hlk hM hS dX2_count_72 (⟨rfl, rfl, rfl⟩)
  · refine lv_tableIn (tgt := 73) (off := 72) hx hb dX2_count_1 (by decide) (by decide) (by decide) (by decide) ?_
    refine lv_aload_n hx hb dX2_count_73 rfl (lv_at hl 0 rfl) ?_
    refine mg_1 (v := I 1) hC hM rfl dX2_count_74 ?_
    exact m_iret hC hQ hr hlk hM hS dX2_count_77 (⟨rfl, rfl, rfl⟩)
  · refine lv_tableIn (tgt := 78) (off := 77) hx hb dX2_count_1 (by decide) (by decide) (by decide) (by decide) ?_
    refine lv_aload_n hx hb dX2_count_78 rfl (lv_at hl 0 rfl) ?_
    refine mg_4 (v := I 4) hC hM rfl dX2_count_79 ?_
    exact m_iret hC hQ hr hlk hM hS dX2_count_82 (⟨rfl, rfl, rfl⟩)
  · refine lv_tableIn (tgt := 83) (off := 82) hx hb dX2_count_1 (by decide) (by decide) (by decide) (by decide) ?_
    refine lv_aload_n hx hb dX2_count_83 rfl (lv_at hl 0 rfl) ?_
    refine mg_10 (v := I 10) hC hM rfl dX2_count_84 ?_
    exact m_iret hC hQ hr hlk hM hS dX2_count_87 (⟨rfl, rfl, rfl⟩)
  · refine lv_tableIn (tgt := 88) (off := 87) hx hb dX2_count_1 (by decide) (by decide) (by decide) (by decide) ?_
    refine lv_aload_n hx hb dX2_count_88 rfl (lv_at hl 0 rfl) ?_
    refine mg_18 (v := I 18) hC hM rfl dX2_count_89 ?_
    exact m_iret hC hQ hr hlk hM hS dX2_count_92 (⟨rfl, rfl, rfl⟩)
  · refine lv_tableIn (tgt := 93) (off := 92) hx hb dX2_count_1 (by decide) (by decide) (by decide) (by decide) ?_
    refine lv_aload_n hx hb dX2_count_93 rfl (lv_at hl 0 rfl) ?_
    refine mg_15 (v := I 15) hC hM rfl dX2_count_94 ?_
    exact m_iret hC hQ hr hlk hM hS dX2_count_97 (⟨rfl, rfl, rfl⟩)
  · refine lv_tableIn (tgt := 98) (off := 97) hx hb dX2_count_1 (by decide) (by decide) (by decide) (by decide) ?_
    refine lv_aload_n hx hb dX2_count_98 rfl (lv_at hl 0 rfl) ?_
    refine mg_48 (v := I 48) hC hM rfl dX2_count_99 ?_
    exact m_iret hC hQ hr hlk hM hS dX2_count_102 (⟨rfl, rfl, rfl⟩)
  · refine lv_tableIn (tgt := 103) (off := 102) hx hb dX2_count_1 (by decide) (by decide) (by decide) (by decide) ?_
    refine lv_aload_n hx hb dX2_count_103 rfl (lv_at hl 0 rfl) ?_
    refine mg_30 hC hM dX2_count_104 ?_
    refine r_iconst hx hb dX2_count_107 ?_
    refine ml_30 (v := F 30 0) hC hM (by decide) rfl dX2_count_108 ?_
    exact m_iret hC hQ hr hlk hM hS dX2_count_109 (⟨rfl, rfl, rfl⟩)
  · refine lv_tableIn (tgt := 110) (off := 109) hx hb dX2_count_1 (by decide) (by decide) (by decide) (by decide) ?_
    refine lv_aload_n hx hb dX2_count_110 rfl (lv_at hl 0 rfl) ?_
    refine mg_31 hC hM dX2_count_111 ?_
    refine r_iconst hx hb dX2_count_114 ?_
    refine ml_31 (v := F 31 0) hC hM (by decide) rfl dX2_count_115 ?_
    exact m_iret hC hQ hr hlk hM hS dX2_count_116 (⟨rfl, rfl, rfl⟩)
  · refine lv_tableIn (tgt := 117) (off := 116) hx hb dX2_count_1 (by decide) (by decide) (by decide) (by decide) ?_
    refine lv_aload_n hx hb dX2_count_117 rfl (lv_at hl 0 rfl) ?_
    refine mg_32 hC hM dX2_count_118 ?_
    refine r_iconst hx hb dX2_count_121 ?_
    refine ml_32 (v := F 32 0) hC hM (by decide) rfl dX2_count_122 ?_
    refine r_if_eq (tgt := 130) hx hb dX2_count_123 (by decide) (by omega) (fun cz => ?_) (fun cz => ?_)
    · refine r_iconst hx hb dX2_count_130 ?_
      exact m_iret hC hQ hr hlk hM hS dX2_count_131 (⟨if_pos cz, rfl, rfl⟩)
    · refine r_iconst hx hb dX2_count_126 ?_
      refine lv_goto (tgt := 131) hx hb dX2_count_127 (by decide) ?_
      exact m_iret hC hQ hr hlk hM hS dX2_count_131 (⟨if_neg cz, rfl, rfl⟩)
  · refine lv_tableIn (tgt := 132) (off := 131) hx hb dX2_count_1 (by decide) (by decide) (by decide) (by decide) ?_
    refine lv_aload_n hx hb dX2_count_132 rfl (lv_at hl 0 rfl) ?_
    refine mg_41 (v := I 41) hC hM rfl dX2_count_133 ?_
    exact m_iret hC hQ hr hlk hM hS dX2_count_136 (⟨rfl, rfl, rfl⟩)
  · refine lv_tableIn (tgt := 137) (off := 136) hx hb dX2_count_1 (by decide) (by decide) (by decide) (by decide) ?_
    refine lv_aload_n hx hb dX2_count_137 rfl (lv_at hl 0 rfl) ?_
    refine mg_45 (v := I 45) hC hM rfl dX2_count_138 ?_
    exact m_iret hC hQ hr hlk hM hS dX2_count_141 (⟨rfl, rfl, rfl⟩)
  · refine lv_tableIn (tgt := 142) (off := 141) hx hb dX2_count_1 (by decide) (by decide) (by decide) (by decide) ?_
    refine lv_aload_n hx hb dX2_count_142 rfl (lv_at hl 0 rfl) ?_
    refine m_calli (kX2_heavy (rest := []) (as := []) hC hml (met_heavy l D E A h ad I F gl0) ⟨rfl, rfl⟩ hR (by decide) hM rfl hl.1 rfl (Nat.le_of_ble_eq_true rfl) dX2_count_143) hS (fun z1 I2 F3 H locs hp4 hM hS => ?_)
    obtain ⟨rfl, rfl, rfl⟩ := hp4
    exact m_iret hC hQ hr hlk hM hS dX2_count_146 (⟨rfl, rfl, rfl⟩)
theorem dX2_goesWith_0 : decode cX2_goesWith 0 = .ok (.iconst 0, 1) := by decide +kernel
theorem dX2_goesWith_1 : decode cX2_goesWith 1 = .ok (.istore_n 2, 1) := by decide +kernel
theorem dX2_goesWith_2 : decode cX2_goesWith 2 = .ok (.iconst 0, 1) := by decide +kernel
theorem dX2_goesWith_3 : decode cX2_goesWith 3 = .ok (.istore_n 3, 1) := by decide +kernel
theorem dX2_goesWith_4 : decode cX2_goesWith 4 = .ok (.iload_n 3, 1) := by decide +kernel
theorem dX2_goesWith_5 : decode cX2_goesWith 5 = .ok (.aload_n 0, 1) := by decide +kernel
theorem dX2_goesWith_6 : decode cX2_goesWith 6 = .ok (.getfield 377, 3) := by decide +kernel
theorem dX2_goesWith_9 : decode cX2_goesWith 9 = .ok (.if_icmp .ge 25, 3) := by decide +kernel
theorem dX2_goesWith_12 : decode cX2_goesWith 12 = .ok (.iload_n 2, 1) := by decide +kernel
theorem dX2_goesWith_13 : decode cX2_goesWith 13 = .ok (.aload_n 0, 1) := by decide +kernel
theorem dX2_goesWith_14 : decode cX2_goesWith 14 = .ok (.getfield 123, 3) := by decide +kernel
theorem dX2_goesWith_17 : decode cX2_goesWith 17 = .ok (.iload_n 3, 1) := by decide +kernel
theorem dX2_goesWith_18 : decode cX2_goesWith 18 = .ok (.iaload, 1) := by decide +kernel
theorem dX2_goesWith_19 : decode cX2_goesWith 19 = .ok (.aload_n 0, 1) := by decide +kernel
theorem dX2_goesWith_20 : decode cX2_goesWith 20 = .ok (.iload_n 1, 1) := by decide +kernel
theorem dX2_goesWith_21 : decode cX2_goesWith 21 = .ok (.iload_n 3, 1) := by decide +kernel
theorem dX2_goesWith_22 : decode cX2_goesWith 22 = .ok (.invokevirtual 229, 3) := by decide +kernel
theorem dX2_goesWith_25 : decode cX2_goesWith 25 = .ok (.imul, 1) := by decide +kernel
theorem dX2_goesWith_26 : decode cX2_goesWith 26 = .ok (.iadd, 1) := by decide +kernel
theorem dX2_goesWith_27 : decode cX2_goesWith 27 = .ok (.istore_n 2, 1) := by decide +kernel
theorem dX2_goesWith_28 : decode cX2_goesWith 28 = .ok (.iinc 3 1, 3) := by decide +kernel
theorem dX2_goesWith_31 : decode cX2_goesWith 31 = .ok (.goto (-27), 3) := by decide +kernel
theorem dX2_goesWith_34 : decode cX2_goesWith 34 = .ok (.iload_n 2, 1) := by decide +kernel
theorem dX2_goesWith_35 : decode cX2_goesWith 35 = .ok (.ireturn, 1) := by decide +kernel
set_option maxHeartbeats 4000000 in
theorem met_goesWith (l : Launch) (D : va_G) (E : Nat → ClassId) (A : Nat → Prop) (h : Nat) (ad : Nat → Nat) (I : Nat → Int) (F : Nat → Int → Int) (wv : Int) (hw : 0 ≤ wv ∧ wv < I 18) (gs0 : gSea I F) (gl : gRec I F) : MM l yX2_goesWith cX2_goesWith 4 (some .int) (mrm 1) D E A h ad [.int (iI wv)] I F (MQi D E A h ad (fun z I1 F1 => gwS (I 45) (F 46) (F 20 wv) (F 21 wv) = z ∧ I = I1 ∧ F = F1)) := by
  refine m_start (by decide) rfl (Nat.le_of_ble_eq_true rfl) ?_
  intro p e R s m args below meth c ls Q hR hQ hC hml hr hlk hM hS hl
  have hx := hC.1
  have hb := hC.2.1
  have hown := hC.2.2.1
  have hts := hC.2.2.2.1
  have hl : lv_has ls 4 [(0, .ref h), (1, .int (iI wv))] := hl
  obtain ⟨i45, a46⟩ := gl
  refine r_iconst hx hb dX2_goesWith_0 ?_
  refine lv_istore_n (lv' := [(2, .int (iI 0)), (0, .ref h), (1, .int (iI wv))]) hx hb dX2_goesWith_1 rfl hl (by decide) rfl (fun ls hl => ?_)
  refine r_iconst hx hb dX2_goesWith_2 ?_
  refine lv_istore_n (lv' := [(3, .int (iI 0)), (2, .int (iI 0)), (0, .ref h), (1, .int (iI wv))]) hx hb dX2_goesWith_3 rfl hl (by decide) rfl (fun ls hl => ?_)
  have loop4_1 : ∀ (n : Nat) (x k : Int), I 45 - k < (n : Int) → x = sm (fun t => F 46 t * sineS (F 20 wv) (F 21 wv) t) k → 0 ≤ k → k ≤ I 45 → ∀ (H : Heap) (locs : List Loc) (ls : Array Slot), MW D E A h ad I F H → va_S A s.heap H locs → lv_has ls 4 [(3, .int (iI k)), (2, .int (iI x)), (0, .ref h), (1, .int (iI wv))] → W p l e R s m args below meth c H locs 0 0 Q (F0 m 4 ls []) := by
    intro n
    induction n with
    | zero => intro x k hn3 ex hk0 hk1; exfalso; omega
    | succ n ih2 =>
      intro x k hn3 ex hk0 hk1 H locs ls hM hS hl
      refine lv_iload_n hx hb dX2_goesWith_4 rfl (lv_at hl 0 rfl) ?_
      refine lv_aload_n hx hb dX2_goesWith_5 rfl (lv_at hl 2 rfl) ?_
      refine mg_45 (v := I 45) hC hM rfl dX2_goesWith_6 ?_
      refine r_icmp_ge (tgt := 34) hx hb dX2_goesWith_9 (by decide) (by omega) (by omega) (fun c4 => ?_) (fun c4 => ?_)
      · have ek : k = I 45 := by omega
        refine lv_iload_n hx hb dX2_goesWith_34 rfl (lv_at hl 1 rfl) ?_
        exact m_iret hC hQ hr hlk hM hS dX2_goesWith_35 (⟨by unfold gwS; rw [ex, ek], rfl, rfl⟩)
      · refine lv_iload_n hx hb dX2_goesWith_12 rfl (lv_at hl 1 rfl) ?_
        refine lv_aload_n hx hb dX2_goesWith_13 rfl (lv_at hl 2 rfl) ?_
        refine mg_46 hC hM dX2_goesWith_14 ?_
        refine lv_iload_n hx hb dX2_goesWith_17 rfl (lv_at hl 0 rfl) ?_
        refine ml_46 (v := F 46 k) hC hM (by omega) rfl dX2_goesWith_18 ?_
        refine lv_aload_n hx hb dX2_goesWith_19 rfl (lv_at hl 2 rfl) ?_
        refine lv_iload_n hx hb dX2_goesWith_20 rfl (lv_at hl 3 rfl) ?_
        refine lv_iload_n hx hb dX2_goesWith_21 rfl (lv_at hl 0 rfl) ?_
        refine m_calli (kX2_sineOf (rest := [.int (iI (F 46 k)), .int (iI x)]) (as := [.int (iI wv), .int (iI k)]) hC hml (met_sineOf l D E A h ad I F wv k (by omega) (by omega) gs0) ⟨rfl, rfl⟩ hR (by decide) hM rfl hl.1 rfl (Nat.le_of_ble_eq_true rfl) dX2_goesWith_22) hS (fun z5 I6 F7 H locs hp8 hM hS => ?_)
        obtain ⟨rfl, rfl, rfl⟩ := hp8
        refine r_imul hx hb dX2_goesWith_25 ?_
        refine r_iadd hx hb dX2_goesWith_26 ?_
        refine lv_istore_n (lv' := [(2, .int (iI (x + ((F 46 k) * (sineS (F 20 wv) (F 21 wv) k))))), (3, .int (iI k)), (0, .ref h), (1, .int (iI wv))]) hx hb dX2_goesWith_27 rfl hl (by decide) rfl (fun ls hl => ?_)
        refine lv_iinc (v := iI (k + 1)) (lv' := [(3, .int (iI (k + 1))), (2, .int (iI (x + ((F 46 k) * (sineS (F 20 wv) (F 21 wv) k))))), (0, .ref h), (1, .int (iI wv))]) hx hb dX2_goesWith_28 hl (k := 1) rfl (iI_add _ _) (by decide) rfl (fun ls hl => ?_)
        refine lv_goto (tgt := 4) hx hb dX2_goesWith_31 (by decide) ?_
        exact ih2 (x + ((F 46 k) * (sineS (F 20 wv) (F 21 wv) k))) (k + 1) (by omega) (by rw [ex, sm_s _ hk0]) (by omega) (by omega) _ _ _ hM hS (lv_sub hl [0, 1, 2, 3] rfl)
  exact loop4_1 ((I 45 - 0 : Int).toNat + 1) 0 0 (by omega) rfl (by omega) (by omega) _ _ _ hM hS (lv_sub hl [0, 1, 2, 3] rfl)
theorem dX2_goes_0 : decode cX2_goes 0 = .ok (.iload_n 1, 1) := by decide +kernel
theorem dX2_goes_1 : decode cX2_goes 1 = .ok (.iconst 0, 1) := by decide +kernel
theorem dX2_goes_2 : decode cX2_goes 2 = .ok (.aload_n 0, 1) := by decide +kernel
theorem dX2_goes_3 : decode cX2_goes 3 = .ok (.getfield 226, 3) := by decide +kernel
theorem dX2_goes_6 : decode cX2_goes 6 = .ok (.iconst 1, 1) := by decide +kernel
theorem dX2_goes_7 : decode cX2_goes 7 = .ok (.isub, 1) := by decide +kernel
theorem dX2_goes_8 : decode cX2_goes 8 = .ok (.invokestatic 173, 3) := by decide +kernel
theorem dX2_goes_11 : decode cX2_goes 11 = .ok (.ifCond .eq 11, 3) := by decide +kernel
theorem dX2_goes_14 : decode cX2_goes 14 = .ok (.aload_n 0, 1) := by decide +kernel
theorem dX2_goes_15 : decode cX2_goes 15 = .ok (.iload_n 1, 1) := by decide +kernel
theorem dX2_goes_16 : decode cX2_goes 16 = .ok (.invokevirtual 380, 3) := by decide +kernel
theorem dX2_goes_19 : decode cX2_goes 19 = .ok (.goto 5, 3) := by decide +kernel
theorem dX2_goes_22 : decode cX2_goes 22 = .ok (.ldc 205, 2) := by decide +kernel
theorem dX2_goes_24 : decode cX2_goes 24 = .ok (.ireturn, 1) := by decide +kernel
set_option maxHeartbeats 4000000 in
theorem met_goes (l : Launch) (D : va_G) (E : Nat → ClassId) (A : Nat → Prop) (h : Nat) (ad : Nat → Nat) (I : Nat → Int) (F : Nat → Int → Int) (wv : Int) (r_w : R32 wv) (gs0 : gSea I F) (gr0 : gRec I F) : MM l yX2_goes cX2_goes 2 (some .int) (mrm 2) D E A h ad [.int (iI wv)] I F (MQi D E A h ad (fun z I1 F1 => (if 0 ≤ wv ∧ wv < I 18 then gwS (I 45) (F 46) (F 20 wv) (F 21 wv) else -2147483648) = z ∧ I = I1 ∧ F = F1)) := by
  refine m_start (by decide) rfl (Nat.le_of_ble_eq_true rfl) ?_
  intro p e R s m args below meth c ls Q hR hQ hC hml hr hlk hM hS hl
  have hx := hC.1
  have hb := hC.2.1
  have hown := hC.2.2.1
  have hts := hC.2.2.2.1
  have hl : lv_has ls 2 [(0, .ref h), (1, .int (iI wv))] := hl
  obtain ⟨i18, a0, a19, a20, a21⟩ := id gs0
  refine lv_iload_n hx hb dX2_goes_0 rfl (lv_at hl 1 rfl) ?_
  refine r_iconst hx hb dX2_goes_1 ?_
  refine lv_aload_n hx hb dX2_goes_2 rfl (lv_at hl 0 rfl) ?_
  refine mg_18 (v := I 18) hC hM rfl dX2_goes_3 ?_
  refine r_iconst hx hb dX2_goes_6 ?_
  refine r_isub hx hb dX2_goes_7 ?_
  refine s_calli (kX2_X2_in (rest := []) (as := [.int (iI wv), .int (iI 0), .int (iI ((I 18) - 1))]) hx hb hml hown hts (met_in l wv 0 ((I 18) - 1) r_w (by decide) (by omega)) ⟨rfl, rfl⟩ hR (by decide) rfl hl.1 rfl (Nat.le_of_ble_eq_true rfl) dX2_goes_8) ?_
  refine r_ifeqB (tgt := 22) hx hb dX2_goes_11 (by decide) (fun c1 => ?_) (fun c1 => ?_)
  · refine r_ldc hx hb (-2147483648) hown (hts _ q1289) (by decide) dX2_goes_22 ?_
    exact m_iret hC hQ hr hlk hM hS dX2_goes_24 (⟨if_neg (by omega), rfl, rfl⟩)
  · refine lv_aload_n hx hb dX2_goes_14 rfl (lv_at hl 0 rfl) ?_
    refine lv_iload_n hx hb dX2_goes_15 rfl (lv_at hl 1 rfl) ?_
    refine m_calli (kX2_goesWith (rest := []) (as := [.int (iI wv)]) hC hml (met_goesWith l D E A h ad I F wv (by omega) gs0 gr0) ⟨rfl, rfl⟩ hR (by decide) hM rfl hl.1 rfl (Nat.le_of_ble_eq_true rfl) dX2_goes_16) hS (fun z2 I3 F4 H locs hp5 hM hS => ?_)
    obtain ⟨rfl, rfl, rfl⟩ := hp5
    refine lv_goto (tgt := 24) hx hb dX2_goes_19 (by decide) ?_
    exact m_iret hC hQ hr hlk hM hS dX2_goes_24 (⟨if_pos (by omega), rfl, rfl⟩)
theorem dX2_queasy_0 : decode cX2_queasy 0 = .ok (.aload_n 0, 1) := by decide +kernel
theorem dX2_queasy_1 : decode cX2_queasy 1 = .ok (.getfield 117, 3) := by decide +kernel
theorem dX2_queasy_4 : decode cX2_queasy 4 = .ok (.iload_n 1, 1) := by decide +kernel
theorem dX2_queasy_5 : decode cX2_queasy 5 = .ok (.iaload, 1) := by decide +kernel
theorem dX2_queasy_6 : decode cX2_queasy 6 = .ok (.iload_n 2, 1) := by decide +kernel
theorem dX2_queasy_7 : decode cX2_queasy 7 = .ok (.isub, 1) := by decide +kernel
theorem dX2_queasy_8 : decode cX2_queasy 8 = .ok (.aload_n 0, 1) := by decide +kernel
theorem dX2_queasy_9 : decode cX2_queasy 9 = .ok (.getfield 120, 3) := by decide +kernel
theorem dX2_queasy_12 : decode cX2_queasy 12 = .ok (.isub, 1) := by decide +kernel
theorem dX2_queasy_13 : decode cX2_queasy 13 = .ok (.istore_n 3, 1) := by decide +kernel
theorem dX2_queasy_14 : decode cX2_queasy 14 = .ok (.bipush 64, 2) := by decide +kernel
theorem dX2_queasy_16 : decode cX2_queasy 16 = .ok (.aload_n 0, 1) := by decide +kernel
theorem dX2_queasy_17 : decode cX2_queasy 17 = .ok (.getfield 114, 3) := by decide +kernel
theorem dX2_queasy_20 : decode cX2_queasy 20 = .ok (.iload_n 1, 1) := by decide +kernel
theorem dX2_queasy_21 : decode cX2_queasy 21 = .ok (.iaload, 1) := by decide +kernel
theorem dX2_queasy_22 : decode cX2_queasy 22 = .ok (.imul, 1) := by decide +kernel
theorem dX2_queasy_23 : decode cX2_queasy 23 = .ok (.iconst 1, 1) := by decide +kernel
theorem dX2_queasy_24 : decode cX2_queasy 24 = .ok (.iload_n 3, 1) := by decide +kernel
theorem dX2_queasy_25 : decode cX2_queasy 25 = .ok (.iload_n 3, 1) := by decide +kernel
theorem dX2_queasy_26 : decode cX2_queasy 26 = .ok (.imul, 1) := by decide +kernel
theorem dX2_queasy_27 : decode cX2_queasy 27 = .ok (.iadd, 1) := by decide +kernel
theorem dX2_queasy_28 : decode cX2_queasy 28 = .ok (.idiv, 1) := by decide +kernel
theorem dX2_queasy_29 : decode cX2_queasy 29 = .ok (.ireturn, 1) := by decide +kernel
set_option maxHeartbeats 4000000 in
theorem met_queasy (l : Launch) (D : va_G) (E : Nat → ClassId) (A : Nat → Prop) (h : Nat) (ad : Nat → Nat) (I : Nat → Int) (F : Nat → Int → Int) (ho go : Int) (hh : 0 ≤ ho ∧ ho < 12) (hg : 0 ≤ go ∧ go ≤ 3) (gl : gWay I F) : MM l yX2_queasy cX2_queasy 4 (some .int) (mrm 0) D E A h ad [.int (iI ho), .int (iI go)] I F (MQi D E A h ad (fun z I1 F1 => queasyS (F 43) (F 42) (I 44) ho go = z ∧ I = I1 ∧ F = F1)) := by
  refine m_start (by decide) rfl (Nat.le_of_ble_eq_true rfl) ?_
  intro p e R s m args below meth c ls Q hR hQ hC hml hr hlk hM hS hl
  have hx := hC.1
  have hb := hC.2.1
  have hown := hC.2.2.1
  have hts := hC.2.2.2.1
  have hl : lv_has ls 4 [(0, .ref h), (1, .int (iI ho)), (2, .int (iI go))] := hl
  obtain ⟨i41, i44, a42, a43⟩ := gl
  have b42 := a42 ho (by omega) (by omega)
  have b43 := a43 ho (by omega) (by omega)
  have hdd := mul_bd (A := 100) (B := 100) (a := F 43 ho - go - I 44) (b := F 43 ho - go - I 44) (by omega) (by omega)
  have hd0 : 0 ≤ (F 43 ho - go - I 44) * (F 43 ho - go - I 44) := sq_nn _
  refine lv_aload_n hx hb dX2_queasy_0 rfl (lv_at hl 0 rfl) ?_
  refine mg_43 hC hM dX2_queasy_1 ?_
  refine lv_iload_n hx hb dX2_queasy_4 rfl (lv_at hl 1 rfl) ?_
  refine ml_43 (v := F 43 ho) hC hM (by omega) rfl dX2_queasy_5 ?_
  refine lv_iload_n hx hb dX2_queasy_6 rfl (lv_at hl 2 rfl) ?_
  refine r_isub hx hb dX2_queasy_7 ?_
  refine lv_aload_n hx hb dX2_queasy_8 rfl (lv_at hl 0 rfl) ?_
  refine mg_44 (v := I 44) hC hM rfl dX2_queasy_9 ?_
  refine r_isub hx hb dX2_queasy_12 ?_
  refine lv_istore_n (lv' := [(3, .int (iI (((F 43 ho) - go) - (I 44)))), (0, .ref h), (1, .int (iI ho)), (2, .int (iI go))]) hx hb dX2_queasy_13 rfl hl (by decide) rfl (fun ls hl => ?_)
  refine r_bipush hx hb dX2_queasy_14 (by decide) ?_
  refine lv_aload_n hx hb dX2_queasy_16 rfl (lv_at hl 1 rfl) ?_
  refine mg_42 hC hM dX2_queasy_17 ?_
  refine lv_iload_n hx hb dX2_queasy_20 rfl (lv_at hl 2 rfl) ?_
  refine ml_42 (v := F 42 ho) hC hM (by omega) rfl dX2_queasy_21 ?_
  refine r_imul hx hb dX2_queasy_22 ?_
  refine r_iconst hx hb dX2_queasy_23 ?_
  refine lv_iload_n hx hb dX2_queasy_24 rfl (lv_at hl 0 rfl) ?_
  refine lv_iload_n hx hb dX2_queasy_25 rfl (lv_at hl 0 rfl) ?_
  refine r_imul hx hb dX2_queasy_26 ?_
  refine r_iadd hx hb dX2_queasy_27 ?_
  refine r_idiv hx hb dX2_queasy_28 (by omega) (by omega) (by omega) ?_
  exact m_iret hC hQ hr hlk hM hS dX2_queasy_29 (⟨rfl, rfl, rfl⟩)
theorem dX2_read_0 : decode cX2_read 0 = .ok (.iload_n 1, 1) := by decide +kernel
theorem dX2_read_1 : decode cX2_read 1 = .ok (.iconst 0, 1) := by decide +kernel
theorem dX2_read_2 : decode cX2_read 2 = .ok (.iconst 3, 1) := by decide +kernel
theorem dX2_read_3 : decode cX2_read 3 = .ok (.invokestatic 173, 3) := by decide +kernel
theorem dX2_read_6 : decode cX2_read 6 = .ok (.ifCond .ne 6, 3) := by decide +kernel
theorem dX2_read_9 : decode cX2_read 9 = .ok (.ldc 205, 2) := by decide +kernel
theorem dX2_read_11 : decode cX2_read 11 = .ok (.ireturn, 1) := by decide +kernel
theorem dX2_read_12 : decode cX2_read 12 = .ok (.iconst 0, 1) := by decide +kernel
theorem dX2_read_13 : decode cX2_read 13 = .ok (.istore_n 2, 1) := by decide +kernel
theorem dX2_read_14 : decode cX2_read 14 = .ok (.iload_n 1, 1) := by decide +kernel
theorem dX2_read_15 : decode cX2_read 15 = .ok (.ifCond .ne 60, 3) := by decide +kernel
theorem dX2_read_18 : decode cX2_read 18 = .ok (.iconst 1, 1) := by decide +kernel
theorem dX2_read_19 : decode cX2_read 19 = .ok (.istore_n 3, 1) := by decide +kernel
theorem dX2_read_20 : decode cX2_read 20 = .ok (.iload_n 3, 1) := by decide +kernel
theorem dX2_read_21 : decode cX2_read 21 = .ok (.aload_n 0, 1) := by decide +kernel
theorem dX2_read_22 : decode cX2_read 22 = .ok (.getfield 226, 3) := by decide +kernel
theorem dX2_read_25 : decode cX2_read 25 = .ok (.if_icmp .ge 30, 3) := by decide +kernel
theorem dX2_read_28 : decode cX2_read 28 = .ok (.aload_n 0, 1) := by decide +kernel
theorem dX2_read_29 : decode cX2_read 29 = .ok (.iload_n 3, 1) := by decide +kernel
theorem dX2_read_30 : decode cX2_read 30 = .ok (.invokevirtual 380, 3) := by decide +kernel
theorem dX2_read_33 : decode cX2_read 33 = .ok (.invokestatic 383, 3) := by decide +kernel
theorem dX2_read_36 : decode cX2_read 36 = .ok (.aload_n 0, 1) := by decide +kernel
theorem dX2_read_37 : decode cX2_read 37 = .ok (.iload_n 2, 1) := by decide +kernel
theorem dX2_read_38 : decode cX2_read 38 = .ok (.invokevirtual 380, 3) := by decide +kernel
theorem dX2_read_41 : decode cX2_read 41 = .ok (.invokestatic 383, 3) := by decide +kernel
theorem dX2_read_44 : decode cX2_read 44 = .ok (.if_icmp .le 5, 3) := by decide +kernel
theorem dX2_read_47 : decode cX2_read 47 = .ok (.iload_n 3, 1) := by decide +kernel
theorem dX2_read_48 : decode cX2_read 48 = .ok (.istore_n 2, 1) := by decide +kernel
theorem dX2_read_49 : decode cX2_read 49 = .ok (.iinc 3 1, 3) := by decide +kernel
theorem dX2_read_52 : decode cX2_read 52 = .ok (.goto (-32), 3) := by decide +kernel
theorem dX2_read_55 : decode cX2_read 55 = .ok (.aload_n 0, 1) := by decide +kernel
theorem dX2_read_56 : decode cX2_read 56 = .ok (.getfield 226, 3) := by decide +kernel
theorem dX2_read_59 : decode cX2_read 59 = .ok (.ifCond .eq 10, 3) := by decide +kernel
theorem dX2_read_62 : decode cX2_read 62 = .ok (.aload_n 0, 1) := by decide +kernel
theorem dX2_read_63 : decode cX2_read 63 = .ok (.getfield 377, 3) := by decide +kernel
theorem dX2_read_66 : decode cX2_read 66 = .ok (.ifCond .ne 7, 3) := by decide +kernel
theorem dX2_read_69 : decode cX2_read 69 = .ok (.iconst (-1), 1) := by decide +kernel
theorem dX2_read_70 : decode cX2_read 70 = .ok (.goto 4, 3) := by decide +kernel
theorem dX2_read_73 : decode cX2_read 73 = .ok (.iload_n 2, 1) := by decide +kernel
theorem dX2_read_74 : decode cX2_read 74 = .ok (.ireturn, 1) := by decide +kernel
theorem dX2_read_75 : decode cX2_read 75 = .ok (.iconst 0, 1) := by decide +kernel
theorem dX2_read_76 : decode cX2_read 76 = .ok (.istore_n 3, 1) := by decide +kernel
theorem dX2_read_77 : decode cX2_read 77 = .ok (.iload_n 3, 1) := by decide +kernel
theorem dX2_read_78 : decode cX2_read 78 = .ok (.aload_n 0, 1) := by decide +kernel
theorem dX2_read_79 : decode cX2_read 79 = .ok (.getfield 377, 3) := by decide +kernel
theorem dX2_read_82 : decode cX2_read 82 = .ok (.if_icmp .ge 88, 3) := by decide +kernel
theorem dX2_read_85 : decode cX2_read 85 = .ok (.aload_n 0, 1) := by decide +kernel
theorem dX2_read_86 : decode cX2_read 86 = .ok (.getfield 123, 3) := by decide +kernel
theorem dX2_read_89 : decode cX2_read 89 = .ok (.iload_n 3, 1) := by decide +kernel
theorem dX2_read_90 : decode cX2_read 90 = .ok (.iaload, 1) := by decide +kernel
theorem dX2_read_91 : decode cX2_read 91 = .ok (.istore 4, 2) := by decide +kernel
theorem dX2_read_93 : decode cX2_read 93 = .ok (.iload_n 1, 1) := by decide +kernel
theorem dX2_read_94 : decode cX2_read 94 = .ok (.iconst 1, 1) := by decide +kernel
theorem dX2_read_95 : decode cX2_read 95 = .ok (.if_icmp .ne 34, 3) := by decide +kernel
theorem dX2_read_98 : decode cX2_read 98 = .ok (.iload_n 2, 1) := by decide +kernel
theorem dX2_read_99 : decode cX2_read 99 = .ok (.iload_n 3, 1) := by decide +kernel
theorem dX2_read_100 : decode cX2_read 100 = .ok (.ifCond .le 23, 3) := by decide +kernel
theorem dX2_read_103 : decode cX2_read 103 = .ok (.iload 4, 2) := by decide +kernel
theorem dX2_read_105 : decode cX2_read 105 = .ok (.ifCond .lt 18, 3) := by decide +kernel
theorem dX2_read_108 : decode cX2_read 108 = .ok (.aload_n 0, 1) := by decide +kernel
theorem dX2_read_109 : decode cX2_read 109 = .ok (.getfield 123, 3) := by decide +kernel
theorem dX2_read_112 : decode cX2_read 112 = .ok (.iload_n 3, 1) := by decide +kernel
theorem dX2_read_113 : decode cX2_read 113 = .ok (.iconst 1, 1) := by decide +kernel
theorem dX2_read_114 : decode cX2_read 114 = .ok (.isub, 1) := by decide +kernel
theorem dX2_read_115 : decode cX2_read 115 = .ok (.iaload, 1) := by decide +kernel
theorem dX2_read_116 : decode cX2_read 116 = .ok (.ifCond .ge 7, 3) := by decide +kernel
theorem dX2_read_119 : decode cX2_read 119 = .ok (.iconst 1, 1) := by decide +kernel
theorem dX2_read_120 : decode cX2_read 120 = .ok (.goto 4, 3) := by decide +kernel
theorem dX2_read_123 : decode cX2_read 123 = .ok (.iconst 0, 1) := by decide +kernel
theorem dX2_read_124 : decode cX2_read 124 = .ok (.iadd, 1) := by decide +kernel
theorem dX2_read_125 : decode cX2_read 125 = .ok (.istore_n 2, 1) := by decide +kernel
theorem dX2_read_126 : decode cX2_read 126 = .ok (.goto 38, 3) := by decide +kernel
theorem dX2_read_129 : decode cX2_read 129 = .ok (.iload_n 1, 1) := by decide +kernel
theorem dX2_read_130 : decode cX2_read 130 = .ok (.iconst 2, 1) := by decide +kernel
theorem dX2_read_131 : decode cX2_read 131 = .ok (.if_icmp .ne 14, 3) := by decide +kernel
theorem dX2_read_134 : decode cX2_read 134 = .ok (.iload_n 2, 1) := by decide +kernel
theorem dX2_read_135 : decode cX2_read 135 = .ok (.iload 4, 2) := by decide +kernel
theorem dX2_read_137 : decode cX2_read 137 = .ok (.iload 4, 2) := by decide +kernel
theorem dX2_read_139 : decode cX2_read 139 = .ok (.imul, 1) := by decide +kernel
theorem dX2_read_140 : decode cX2_read 140 = .ok (.iadd, 1) := by decide +kernel
theorem dX2_read_141 : decode cX2_read 141 = .ok (.istore_n 2, 1) := by decide +kernel
theorem dX2_read_142 : decode cX2_read 142 = .ok (.goto 22, 3) := by decide +kernel
theorem dX2_read_145 : decode cX2_read 145 = .ok (.iload 4, 2) := by decide +kernel
theorem dX2_read_147 : decode cX2_read 147 = .ok (.invokestatic 383, 3) := by decide +kernel
theorem dX2_read_150 : decode cX2_read 150 = .ok (.iload_n 2, 1) := by decide +kernel
theorem dX2_read_151 : decode cX2_read 151 = .ok (.if_icmp .le 11, 3) := by decide +kernel
theorem dX2_read_154 : decode cX2_read 154 = .ok (.iload 4, 2) := by decide +kernel
theorem dX2_read_156 : decode cX2_read 156 = .ok (.invokestatic 383, 3) := by decide +kernel
theorem dX2_read_159 : decode cX2_read 159 = .ok (.goto 4, 3) := by decide +kernel
theorem dX2_read_162 : decode cX2_read 162 = .ok (.iload_n 2, 1) := by decide +kernel
theorem dX2_read_163 : decode cX2_read 163 = .ok (.istore_n 2, 1) := by decide +kernel
theorem dX2_read_164 : decode cX2_read 164 = .ok (.iinc 3 1, 3) := by decide +kernel
theorem dX2_read_167 : decode cX2_read 167 = .ok (.goto (-90), 3) := by decide +kernel
theorem dX2_read_170 : decode cX2_read 170 = .ok (.iload_n 2, 1) := by decide +kernel
theorem dX2_read_171 : decode cX2_read 171 = .ok (.ireturn, 1) := by decide +kernel
set_option maxHeartbeats 4000000 in
theorem met_read (l : Launch) (D : va_G) (E : Nat → ClassId) (A : Nat → Prop) (h : Nat) (ad : Nat → Nat) (I : Nat → Int) (F : Nat → Int → Int) (wh : Int) (r_w : R32 wh) (gs0 : gSea I F) (gr0 : gRec I F) : MM l yX2_read cX2_read 5 (some .int) (mrm 2) D E A h ad [.int (iI wh)] I F (MQi D E A h ad (fun z I1 F1 => readS wh (I 45) (F 46) (I 18) (F 20) (F 21) = z ∧ I = I1 ∧ F = F1)) := by
  refine m_start (by decide) rfl (Nat.le_of_ble_eq_true rfl) ?_
  intro p e R s m args below meth c ls Q hR hQ hC hml hr hlk hM hS hl
  have hx := hC.1
  have hb := hC.2.1
  have hown := hC.2.2.1
  have hts := hC.2.2.2.1
  have hl : lv_has ls 5 [(0, .ref h), (1, .int (iI wh))] := hl
  obtain ⟨i18, a0, a19, a20, a21⟩ := id gs0
  obtain ⟨i45, a46⟩ := id gr0
  refine lv_iload_n hx hb dX2_read_0 rfl (lv_at hl 1 rfl) ?_
  refine r_iconst hx hb dX2_read_1 ?_
  refine r_iconst hx hb dX2_read_2 ?_
  refine s_calli (kX2_X2_in (rest := []) (as := [.int (iI wh), .int (iI 0), .int (iI 3)]) hx hb hml hown hts (met_in l wh 0 3 r_w (by decide) (by decide)) ⟨rfl, rfl⟩ hR (by decide) rfl hl.1 rfl (Nat.le_of_ble_eq_true rfl) dX2_read_3) ?_
  refine r_ifneB (tgt := 12) hx hb dX2_read_6 (by decide) (fun c1 => ?_) (fun c1 => ?_)
  · refine r_iconst hx hb dX2_read_12 ?_
    refine lv_istore_n (lv' := [(2, .int (iI 0)), (0, .ref h), (1, .int (iI wh))]) hx hb dX2_read_13 rfl hl (by decide) rfl (fun ls hl => ?_)
    refine lv_iload_n hx hb dX2_read_14 rfl (lv_at hl 2 rfl) ?_
    refine r_if_ne (tgt := 75) hx hb dX2_read_15 (by decide) r_w (fun c0 => ?_) (fun c0 => ?_)
    · refine r_iconst hx hb dX2_read_75 ?_
      refine lv_istore_n (lv' := [(3, .int (iI 0)), (2, .int (iI 0)), (0, .ref h), (1, .int (iI wh))]) hx hb dX2_read_76 rfl hl (by decide) rfl (fun ls hl => ?_)
      have loop77_2 : ∀ (n : Nat) (x k : Int), I 45 - k < (n : Int) → x = rdS wh (F 46) k → 0 ≤ k → k ≤ I 45 → ∀ (H : Heap) (locs : List Loc) (ls : Array Slot), MW D E A h ad I F H → va_S A s.heap H locs → lv_has ls 5 [(3, .int (iI k)), (2, .int (iI x)), (0, .ref h), (1, .int (iI wh))] → W p l e R s m args below meth c H locs 0 0 Q (F0 m 77 ls []) := by
        intro n
        induction n with
        | zero => intro x k hn4 ex hk0 hk1; exfalso; omega
        | succ n ih3 =>
          intro x k hn4 ex hk0 hk1 H locs ls hM hS hl
          refine lv_iload_n hx hb dX2_read_77 rfl (lv_at hl 0 rfl) ?_
          refine lv_aload_n hx hb dX2_read_78 rfl (lv_at hl 2 rfl) ?_
          refine mg_45 (v := I 45) hC hM rfl dX2_read_79 ?_
          refine r_icmp_ge (tgt := 170) hx hb dX2_read_82 (by decide) (by omega) (by omega) (fun c5 => ?_) (fun c5 => ?_)
          · have ek : k = I 45 := by omega
            refine lv_iload_n hx hb dX2_read_170 rfl (lv_at hl 1 rfl) ?_
            exact m_iret hC hQ hr hlk hM hS dX2_read_171 (⟨by unfold readS; rw [if_neg c0, if_pos (by omega), ex, ek], rfl, rfl⟩)
          · have b46 := a46 k (by omega) (by omega)
            refine lv_aload_n hx hb dX2_read_85 rfl (lv_at hl 2 rfl) ?_
            refine mg_46 hC hM dX2_read_86 ?_
            refine lv_iload_n hx hb dX2_read_89 rfl (lv_at hl 0 rfl) ?_
            refine ml_46 (v := F 46 k) hC hM (by omega) rfl dX2_read_90 ?_
            refine lv_istore (lv' := [(4, .int (iI (F 46 k))), (3, .int (iI k)), (2, .int (iI x)), (0, .ref h), (1, .int (iI wh))]) hx hb dX2_read_91 hl (by decide) rfl (fun ls hl => ?_)
            refine lv_iload_n hx hb dX2_read_93 rfl (lv_at hl 4 rfl) ?_
            refine r_iconst hx hb dX2_read_94 ?_
            refine r_icmp_ne (tgt := 129) hx hb dX2_read_95 (by decide) r_w (by decide) (fun c6 => ?_) (fun c6 => ?_)
            · refine lv_iload_n hx hb dX2_read_129 rfl (lv_at hl 4 rfl) ?_
              refine r_iconst hx hb dX2_read_130 ?_
              refine r_icmp_ne (tgt := 145) hx hb dX2_read_131 (by decide) r_w (by decide) (fun c7 => ?_) (fun c7 => ?_)
              · have ex3 : x = mxS (F 46) k := by rw [ex, rdS_3 (by omega) (by omega)]
                have hxr : R32 x := by have := mxS_bd (f := F 46) (n := k) (by omega) a46; omega
                refine lv_iload hx hb dX2_read_145 (lv_at hl 0 rfl) ?_
                refine s_calli (kX2_X2_far (rest := []) (as := [.int (iI (F 46 k))]) hx hb hml hown hts (met_far l (F 46 k) (by omega)) ⟨rfl, rfl⟩ hR (by decide) rfl hl.1 rfl (Nat.le_of_ble_eq_true rfl) dX2_read_147) ?_
                refine lv_iload_n hx hb dX2_read_150 rfl (lv_at hl 2 rfl) ?_
                refine r_icmp_le (tgt := 162) hx hb dX2_read_151 (by decide) (by split <;> omega) hxr (fun cc => ?_) (fun cc => ?_)
                · refine lv_iload_n hx hb dX2_read_162 rfl (lv_at hl 2 rfl) ?_
                  refine lv_istore_n (lv' := [(2, .int (iI x)), (4, .int (iI (F 46 k))), (3, .int (iI k)), (0, .ref h), (1, .int (iI wh))]) hx hb dX2_read_163 rfl hl (by decide) rfl (fun ls hl => ?_)
                  refine lv_iinc (v := iI (k + 1)) (lv' := [(3, .int (iI (k + 1))), (2, .int (iI x)), (4, .int (iI (F 46 k))), (0, .ref h), (1, .int (iI wh))]) hx hb dX2_read_164 hl (k := 2) rfl (iI_add _ _) (by decide) rfl (fun ls hl => ?_)
                  refine lv_goto (tgt := 77) hx hb dX2_read_167 (by decide) ?_
                  exact ih3 x (k + 1) (by omega) (by rw [rdS_3 (by omega) (by omega), mxS_s _ hk0, ← ex3]; exact (if_neg (Int.not_lt.mpr cc)).symm) (by omega) (by omega) _ _ _ hM hS (lv_sub hl [0, 1, 3, 4] rfl)
                · refine lv_iload hx hb dX2_read_154 (lv_at hl 0 rfl) ?_
                  refine s_calli (kX2_X2_far (rest := []) (as := [.int (iI (F 46 k))]) hx hb hml hown hts (met_far l (F 46 k) (by omega)) ⟨rfl, rfl⟩ hR (by decide) rfl hl.1 rfl (Nat.le_of_ble_eq_true rfl) dX2_read_156) ?_
                  refine lv_goto (tgt := 163) hx hb dX2_read_159 (by decide) ?_
                  refine lv_istore_n (lv' := [(2, .int (iI (if (F 46 k) < 0 then -(F 46 k) else (F 46 k)))), (4, .int (iI (F 46 k))), (3, .int (iI k)), (0, .ref h), (1, .int (iI wh))]) hx hb dX2_read_163 rfl hl (by decide) rfl (fun ls hl => ?_)
                  refine lv_iinc (v := iI (k + 1)) (lv' := [(3, .int (iI (k + 1))), (2, .int (iI (if (F 46 k) < 0 then -(F 46 k) else (F 46 k)))), (4, .int (iI (F 46 k))), (0, .ref h), (1, .int (iI wh))]) hx hb dX2_read_164 hl (k := 2) rfl (iI_add _ _) (by decide) rfl (fun ls hl => ?_)
                  refine lv_goto (tgt := 77) hx hb dX2_read_167 (by decide) ?_
                  exact ih3 (if (F 46 k) < 0 then -(F 46 k) else (F 46 k)) (k + 1) (by omega) (by rw [rdS_3 (by omega) (by omega), mxS_s _ hk0, ← ex3]; exact (if_pos cc).symm) (by omega) (by omega) _ _ _ hM hS (lv_sub hl [0, 1, 3, 4] rfl)
              · refine lv_iload_n hx hb dX2_read_134 rfl (lv_at hl 2 rfl) ?_
                refine lv_iload hx hb dX2_read_135 (lv_at hl 0 rfl) ?_
                refine lv_iload hx hb dX2_read_137 (lv_at hl 0 rfl) ?_
                refine r_imul hx hb dX2_read_139 ?_
                refine r_iadd hx hb dX2_read_140 ?_
                refine lv_istore_n (lv' := [(2, .int (iI (x + ((F 46 k) * (F 46 k))))), (4, .int (iI (F 46 k))), (3, .int (iI k)), (0, .ref h), (1, .int (iI wh))]) hx hb dX2_read_141 rfl hl (by decide) rfl (fun ls hl => ?_)
                refine lv_goto (tgt := 164) hx hb dX2_read_142 (by decide) ?_
                refine lv_iinc (v := iI (k + 1)) (lv' := [(3, .int (iI (k + 1))), (2, .int (iI (x + ((F 46 k) * (F 46 k))))), (4, .int (iI (F 46 k))), (0, .ref h), (1, .int (iI wh))]) hx hb dX2_read_164 hl (k := 2) rfl (iI_add _ _) (by decide) rfl (fun ls hl => ?_)
                refine lv_goto (tgt := 77) hx hb dX2_read_167 (by decide) ?_
                exact ih3 (x + ((F 46 k) * (F 46 k))) (k + 1) (by omega) (by rw [ex, rdS_2 (by omega), rdS_2 (by omega), sm_s _ hk0]) (by omega) (by omega) _ _ _ hM hS (lv_sub hl [0, 1, 3, 4] rfl)
            · refine lv_iload_n hx hb dX2_read_98 rfl (lv_at hl 2 rfl) ?_
              refine lv_iload_n hx hb dX2_read_99 rfl (lv_at hl 1 rfl) ?_
              have jn8 : W p l e R s m args below meth c H locs 0 0 Q (F0 m 124 ls [.int (iI (if 0 < k ∧ 0 ≤ F 46 k ∧ F 46 (k - 1) < 0 then 1 else 0)), .int (iI x)]) := by
                refine r_iadd hx hb dX2_read_124 ?_
                refine lv_istore_n (lv' := [(2, .int (iI (x + (if 0 < k ∧ 0 ≤ F 46 k ∧ F 46 (k - 1) < 0 then 1 else 0)))), (4, .int (iI (F 46 k))), (3, .int (iI k)), (0, .ref h), (1, .int (iI wh))]) hx hb dX2_read_125 rfl hl (by decide) rfl (fun ls hl => ?_)
                refine lv_goto (tgt := 164) hx hb dX2_read_126 (by decide) ?_
                refine lv_iinc (v := iI (k + 1)) (lv' := [(3, .int (iI (k + 1))), (2, .int (iI (x + (if 0 < k ∧ 0 ≤ F 46 k ∧ F 46 (k - 1) < 0 then 1 else 0)))), (4, .int (iI (F 46 k))), (0, .ref h), (1, .int (iI wh))]) hx hb dX2_read_164 hl (k := 2) rfl (iI_add _ _) (by decide) rfl (fun ls hl => ?_)
                refine lv_goto (tgt := 77) hx hb dX2_read_167 (by decide) ?_
                exact ih3 (x + (if 0 < k ∧ 0 ≤ F 46 k ∧ F 46 (k - 1) < 0 then 1 else 0)) (k + 1) (by omega) (by rw [rdS_1 (by omega), sm_s _ hk0, ex, rdS_1 (by omega)]) (by omega) (by omega) _ _ _ hM hS (lv_sub hl [0, 1, 3, 4] rfl)
              refine r_if_le (tgt := 123) hx hb dX2_read_100 (by decide) (by omega) (fun c9 => ?_) (fun c9 => ?_)
              · refine r_iconst hx hb dX2_read_123 ?_
                rw [if_neg (by omega)] at jn8
                exact jn8
              · refine lv_iload hx hb dX2_read_103 (lv_at hl 0 rfl) ?_
                refine r_if_lt (tgt := 123) hx hb dX2_read_105 (by decide) (by omega) (fun c10 => ?_) (fun c10 => ?_)
                · refine r_iconst hx hb dX2_read_123 ?_
                  rw [if_neg (by omega)] at jn8
                  exact jn8
                · have b46p := a46 (k - 1) (by omega) (by omega)
                  refine lv_aload_n hx hb dX2_read_108 rfl (lv_at hl 3 rfl) ?_
                  refine mg_46 hC hM dX2_read_109 ?_
                  refine lv_iload_n hx hb dX2_read_112 rfl (lv_at hl 1 rfl) ?_
                  refine r_iconst hx hb dX2_read_113 ?_
                  refine r_isub hx hb dX2_read_114 ?_
                  refine ml_46 (v := F 46 (k - 1)) hC hM (by omega) rfl dX2_read_115 ?_
                  refine r_if_ge (tgt := 123) hx hb dX2_read_116 (by decide) (by omega) (fun c11 => ?_) (fun c11 => ?_)
                  · refine r_iconst hx hb dX2_read_123 ?_
                    rw [if_neg (by omega)] at jn8
                    exact jn8
                  · refine r_iconst hx hb dX2_read_119 ?_
                    refine lv_goto (tgt := 124) hx hb dX2_read_120 (by decide) ?_
                    rw [if_pos (by omega)] at jn8
                    exact jn8
      exact loop77_2 ((I 45 - 0 : Int).toNat + 1) 0 0 (by omega) (by unfold rdS; split; rfl; split <;> rfl) (by omega) (by omega) _ _ _ hM hS (lv_sub hl [0, 1, 2, 3] rfl)
    · refine r_iconst hx hb dX2_read_18 ?_
      refine lv_istore_n (lv' := [(3, .int (iI 1)), (2, .int (iI 0)), (0, .ref h), (1, .int (iI wh))]) hx hb dX2_read_19 rfl hl (by decide) rfl (fun ls hl => ?_)
      have loop20_12 : ∀ (n : Nat) (x k : Int), 8 - k < (n : Int) → x = amxN (fun w => gwS (I 45) (F 46) (F 20 w) (F 21 w)) (k - 1).toNat → 1 ≤ k → k ≤ I 18 ∨ k = 1 → ∀ (H : Heap) (locs : List Loc) (ls : Array Slot), MW D E A h ad I F H → va_S A s.heap H locs → lv_has ls 5 [(3, .int (iI k)), (2, .int (iI x)), (0, .ref h), (1, .int (iI wh))] → W p l e R s m args below meth c H locs 0 0 Q (F0 m 20 ls []) := by
        intro n
        induction n with
        | zero => intro x k hn14 ex hk0 hk1; exfalso; omega
        | succ n ih13 =>
          intro x k hn14 ex hk0 hk1 H locs ls hM hS hl
          refine lv_iload_n hx hb dX2_read_20 rfl (lv_at hl 0 rfl) ?_
          refine lv_aload_n hx hb dX2_read_21 rfl (lv_at hl 2 rfl) ?_
          refine mg_18 (v := I 18) hC hM rfl dX2_read_22 ?_
          refine r_icmp_ge (tgt := 55) hx hb dX2_read_25 (by decide) (by omega) (by omega) (fun c15 => ?_) (fun c15 => ?_)
          · refine lv_aload_n hx hb dX2_read_55 rfl (lv_at hl 2 rfl) ?_
            refine mg_18 (v := I 18) hC hM rfl dX2_read_56 ?_
            refine r_if_eq (tgt := 69) hx hb dX2_read_59 (by decide) (by omega) (fun c16 => ?_) (fun c16 => ?_)
            · refine r_iconst hx hb dX2_read_69 ?_
              refine lv_goto (tgt := 74) hx hb dX2_read_70 (by decide) ?_
              exact m_iret hC hQ hr hlk hM hS dX2_read_74 (⟨by unfold readS; rw [if_pos c0, if_pos (by omega)], rfl, rfl⟩)
            · refine lv_aload_n hx hb dX2_read_62 rfl (lv_at hl 2 rfl) ?_
              refine mg_45 (v := I 45) hC hM rfl dX2_read_63 ?_
              refine r_if_ne (tgt := 73) hx hb dX2_read_66 (by decide) (by omega) (fun c17 => ?_) (fun c17 => ?_)
              · refine lv_iload_n hx hb dX2_read_73 rfl (lv_at hl 1 rfl) ?_
                exact m_iret hC hQ hr hlk hM hS dX2_read_74 (⟨by unfold readS; rw [if_pos c0, if_neg (by omega), ex, show k - 1 = I 18 - 1 by omega], rfl, rfl⟩)
              · refine r_iconst hx hb dX2_read_69 ?_
                refine lv_goto (tgt := 74) hx hb dX2_read_70 (by decide) ?_
                exact m_iret hC hQ hr hlk hM hS dX2_read_74 (⟨by unfold readS; rw [if_pos c0, if_pos (by omega)], rfl, rfl⟩)
          · have hx0 := amxN_bd (fun w => gwS (I 45) (F 46) (F 20 w) (F 21 w)) (k - 1).toNat
            rw [← ex] at hx0
            refine lv_aload_n hx hb dX2_read_28 rfl (lv_at hl 2 rfl) ?_
            refine lv_iload_n hx hb dX2_read_29 rfl (lv_at hl 0 rfl) ?_
            refine m_calli (kX2_goesWith (rest := []) (as := [.int (iI k)]) hC hml (met_goesWith l D E A h ad I F k (by omega) gs0 gr0) ⟨rfl, rfl⟩ hR (by decide) hM rfl hl.1 rfl (Nat.le_of_ble_eq_true rfl) dX2_read_30) hS (fun z18 I19 F20 H locs hp21 hM hS => ?_)
            obtain ⟨rfl, rfl, rfl⟩ := hp21
            refine s_calli (kX2_X2_far (rest := []) (as := [.int (iI (gwS (I 45) (F 46) (F 20 k) (F 21 k)))]) hx hb hml hown hts (met_far l (gwS (I 45) (F 46) (F 20 k) (F 21 k)) (by have := gw_bd (per := F 20 k) (pha := F 21 k) i45 a46; omega)) ⟨rfl, rfl⟩ hR (by decide) rfl hl.1 rfl (Nat.le_of_ble_eq_true rfl) dX2_read_33) ?_
            refine lv_aload_n hx hb dX2_read_36 rfl (lv_at hl 2 rfl) ?_
            refine lv_iload_n hx hb dX2_read_37 rfl (lv_at hl 1 rfl) ?_
            refine m_calli (kX2_goesWith (rest := [.int (iI (if (gwS (I 45) (F 46) (F 20 k) (F 21 k)) < 0 then -(gwS (I 45) (F 46) (F 20 k) (F 21 k)) else (gwS (I 45) (F 46) (F 20 k) (F 21 k))))]) (as := [.int (iI x)]) hC hml (met_goesWith l D E A h ad I F x (by omega) gs0 gr0) ⟨rfl, rfl⟩ hR (by decide) hM rfl hl.1 rfl (Nat.le_of_ble_eq_true rfl) dX2_read_38) hS (fun z22 I23 F24 H locs hp25 hM hS => ?_)
            obtain ⟨rfl, rfl, rfl⟩ := hp25
            refine s_calli (kX2_X2_far (rest := [.int (iI (if (gwS (I 45) (F 46) (F 20 k) (F 21 k)) < 0 then -(gwS (I 45) (F 46) (F 20 k) (F 21 k)) else (gwS (I 45) (F 46) (F 20 k) (F 21 k))))]) (as := [.int (iI (gwS (I 45) (F 46) (F 20 x) (F 21 x)))]) hx hb hml hown hts (met_far l (gwS (I 45) (F 46) (F 20 x) (F 21 x)) (by have := gw_bd (per := F 20 x) (pha := F 21 x) i45 a46; omega)) ⟨rfl, rfl⟩ hR (by decide) rfl hl.1 rfl (Nat.le_of_ble_eq_true rfl) dX2_read_41) ?_
            refine r_icmp_le (tgt := 49) hx hb dX2_read_44 (by decide) (by have := gw_bd (per := F 20 k) (pha := F 21 k) i45 a46; split <;> omega) (by have := gw_bd (per := F 20 x) (pha := F 21 x) i45 a46; split <;> omega) (fun cc => ?_) (fun cc => ?_)
            · refine lv_iinc (v := iI (k + 1)) (lv' := [(3, .int (iI (k + 1))), (2, .int (iI x)), (0, .ref h), (1, .int (iI wh))]) hx hb dX2_read_49 hl (k := 0) rfl (iI_add _ _) (by decide) rfl (fun ls hl => ?_)
              refine lv_goto (tgt := 20) hx hb dX2_read_52 (by decide) ?_
              exact ih13 x (k + 1) (by omega) (by rw [show k + 1 - 1 = k by omega, amxN_s (fun w => gwS (I 45) (F 46) (F 20 w) (F 21 w)) (by omega), ← ex]; exact (if_neg (Int.not_lt.mpr cc)).symm) (by omega) (by omega) _ _ _ hM hS (lv_sub hl [0, 1, 2, 3] rfl)
            · refine lv_iload_n hx hb dX2_read_47 rfl (lv_at hl 0 rfl) ?_
              refine lv_istore_n (lv' := [(2, .int (iI k)), (3, .int (iI k)), (0, .ref h), (1, .int (iI wh))]) hx hb dX2_read_48 rfl hl (by decide) rfl (fun ls hl => ?_)
              refine lv_iinc (v := iI (k + 1)) (lv' := [(3, .int (iI (k + 1))), (2, .int (iI k)), (0, .ref h), (1, .int (iI wh))]) hx hb dX2_read_49 hl (k := 1) rfl (iI_add _ _) (by decide) rfl (fun ls hl => ?_)
              refine lv_goto (tgt := 20) hx hb dX2_read_52 (by decide) ?_
              exact ih13 k (k + 1) (by omega) (by rw [show k + 1 - 1 = k by omega, amxN_s (fun w => gwS (I 45) (F 46) (F 20 w) (F 21 w)) (by omega), ← ex]; exact (if_pos cc).symm) (by omega) (by omega) _ _ _ hM hS (lv_sub hl [0, 1, 2, 3] rfl)
      exact loop20_12 ((8 - 1 : Int).toNat + 1) 0 1 (by omega) rfl (by omega) (by omega) _ _ _ hM hS (lv_sub hl [0, 1, 2, 3] rfl)
  · refine r_ldc hx hb (-2147483648) hown (hts _ q1289) (by decide) dX2_read_9 ?_
    exact m_iret hC hQ hr hlk hM hS dX2_read_11 (⟨by unfold readS; rw [if_neg (by omega), if_neg (by omega)], rfl, rfl⟩)
theorem tdiv_max {a b : Int} (ha : R32 a) (hb : 1 ≤ b ∧ b ≤ 50) : a.tdiv b ≤ 2147483647 ∧ -2147483648 ≤ a.tdiv b := by
  rcases Int.le_total 0 a with p | p
  · have := tdiv_bd (a := a) (b := b) (M := 2147483647) (by omega) (by omega)
    omega
  · have h1 := tdiv_bd (a := a) (b := b) (M := 2147483648) (by omega) (by omega)
    have h2 : a.tdiv b ≤ 0 := by rw [show a = -(-a) by omega, Int.neg_tdiv, Int.tdiv_eq_ediv_of_nonneg (by omega)]; have := Int.ediv_nonneg (show 0 ≤ -a by omega) (show 0 ≤ b by omega); omega
    omega
theorem dX2_check_0 : decode cX2_check 0 = .ok (.iload_n 1, 1) := by decide +kernel
theorem dX2_check_1 : decode cX2_check 1 = .ok (.iconst 0, 1) := by decide +kernel
theorem dX2_check_2 : decode cX2_check 2 = .ok (.aload_n 0, 1) := by decide +kernel
theorem dX2_check_3 : decode cX2_check 3 = .ok (.getfield 254, 3) := by decide +kernel
theorem dX2_check_6 : decode cX2_check 6 = .ok (.iconst 1, 1) := by decide +kernel
theorem dX2_check_7 : decode cX2_check 7 = .ok (.isub, 1) := by decide +kernel
theorem dX2_check_8 : decode cX2_check 8 = .ok (.invokestatic 173, 3) := by decide +kernel
theorem dX2_check_11 : decode cX2_check 11 = .ok (.ifCond .eq 21, 3) := by decide +kernel
theorem dX2_check_14 : decode cX2_check 14 = .ok (.iload_n 2, 1) := by decide +kernel
theorem dX2_check_15 : decode cX2_check 15 = .ok (.iconst 0, 1) := by decide +kernel
theorem dX2_check_16 : decode cX2_check 16 = .ok (.iconst 2, 1) := by decide +kernel
theorem dX2_check_17 : decode cX2_check 17 = .ok (.invokestatic 173, 3) := by decide +kernel
theorem dX2_check_20 : decode cX2_check 20 = .ok (.ifCond .eq 12, 3) := by decide +kernel
theorem dX2_check_23 : decode cX2_check 23 = .ok (.aload_n 0, 1) := by decide +kernel
theorem dX2_check_24 : decode cX2_check 24 = .ok (.getfield 111, 3) := by decide +kernel
theorem dX2_check_27 : decode cX2_check 27 = .ok (.iload_n 1, 1) := by decide +kernel
theorem dX2_check_28 : decode cX2_check 28 = .ok (.baload, 1) := by decide +kernel
theorem dX2_check_29 : decode cX2_check 29 = .ok (.ifCond .ne 5, 3) := by decide +kernel
theorem dX2_check_32 : decode cX2_check 32 = .ok (.iconst (-1), 1) := by decide +kernel
theorem dX2_check_33 : decode cX2_check 33 = .ok (.ireturn, 1) := by decide +kernel
theorem dX2_check_34 : decode cX2_check 34 = .ok (.iload_n 2, 1) := by decide +kernel
theorem dX2_check_35 : decode cX2_check 35 = .ok (.ifCond .ne 14, 3) := by decide +kernel
theorem dX2_check_38 : decode cX2_check 38 = .ok (.aload_n 0, 1) := by decide +kernel
theorem dX2_check_39 : decode cX2_check 39 = .ok (.getfield 99, 3) := by decide +kernel
theorem dX2_check_42 : decode cX2_check 42 = .ok (.iload_n 1, 1) := by decide +kernel
theorem dX2_check_43 : decode cX2_check 43 = .ok (.iaload, 1) := by decide +kernel
theorem dX2_check_44 : decode cX2_check 44 = .ok (.iload_n 3, 1) := by decide +kernel
theorem dX2_check_45 : decode cX2_check 45 = .ok (.ixor, 1) := by decide +kernel
theorem dX2_check_46 : decode cX2_check 46 = .ok (.goto 9, 3) := by decide +kernel
theorem dX2_check_49 : decode cX2_check 49 = .ok (.aload_n 0, 1) := by decide +kernel
theorem dX2_check_50 : decode cX2_check 50 = .ok (.getfield 99, 3) := by decide +kernel
theorem dX2_check_53 : decode cX2_check 53 = .ok (.iload_n 1, 1) := by decide +kernel
theorem dX2_check_54 : decode cX2_check 54 = .ok (.iaload, 1) := by decide +kernel
theorem dX2_check_55 : decode cX2_check 55 = .ok (.istore 4, 2) := by decide +kernel
theorem dX2_check_57 : decode cX2_check 57 = .ok (.iload_n 2, 1) := by decide +kernel
theorem dX2_check_58 : decode cX2_check 58 = .ok (.iconst 1, 1) := by decide +kernel
theorem dX2_check_59 : decode cX2_check 59 = .ok (.if_icmp .ne 14, 3) := by decide +kernel
theorem dX2_check_62 : decode cX2_check 62 = .ok (.aload_n 0, 1) := by decide +kernel
theorem dX2_check_63 : decode cX2_check 63 = .ok (.getfield 102, 3) := by decide +kernel
theorem dX2_check_66 : decode cX2_check 66 = .ok (.iload_n 1, 1) := by decide +kernel
theorem dX2_check_67 : decode cX2_check 67 = .ok (.iaload, 1) := by decide +kernel
theorem dX2_check_68 : decode cX2_check 68 = .ok (.iload_n 3, 1) := by decide +kernel
theorem dX2_check_69 : decode cX2_check 69 = .ok (.ixor, 1) := by decide +kernel
theorem dX2_check_70 : decode cX2_check 70 = .ok (.goto 9, 3) := by decide +kernel
theorem dX2_check_73 : decode cX2_check 73 = .ok (.aload_n 0, 1) := by decide +kernel
theorem dX2_check_74 : decode cX2_check 74 = .ok (.getfield 102, 3) := by decide +kernel
theorem dX2_check_77 : decode cX2_check 77 = .ok (.iload_n 1, 1) := by decide +kernel
theorem dX2_check_78 : decode cX2_check 78 = .ok (.iaload, 1) := by decide +kernel
theorem dX2_check_79 : decode cX2_check 79 = .ok (.istore 5, 2) := by decide +kernel
theorem dX2_check_81 : decode cX2_check 81 = .ok (.iload_n 2, 1) := by decide +kernel
theorem dX2_check_82 : decode cX2_check 82 = .ok (.iconst 2, 1) := by decide +kernel
theorem dX2_check_83 : decode cX2_check 83 = .ok (.if_icmp .ne 14, 3) := by decide +kernel
theorem dX2_check_86 : decode cX2_check 86 = .ok (.aload_n 0, 1) := by decide +kernel
theorem dX2_check_87 : decode cX2_check 87 = .ok (.getfield 105, 3) := by decide +kernel
theorem dX2_check_90 : decode cX2_check 90 = .ok (.iload_n 1, 1) := by decide +kernel
theorem dX2_check_91 : decode cX2_check 91 = .ok (.iaload, 1) := by decide +kernel
theorem dX2_check_92 : decode cX2_check 92 = .ok (.iload_n 3, 1) := by decide +kernel
theorem dX2_check_93 : decode cX2_check 93 = .ok (.ixor, 1) := by decide +kernel
theorem dX2_check_94 : decode cX2_check 94 = .ok (.goto 9, 3) := by decide +kernel
theorem dX2_check_97 : decode cX2_check 97 = .ok (.aload_n 0, 1) := by decide +kernel
theorem dX2_check_98 : decode cX2_check 98 = .ok (.getfield 105, 3) := by decide +kernel
theorem dX2_check_101 : decode cX2_check 101 = .ok (.iload_n 1, 1) := by decide +kernel
theorem dX2_check_102 : decode cX2_check 102 = .ok (.iaload, 1) := by decide +kernel
theorem dX2_check_103 : decode cX2_check 103 = .ok (.istore 6, 2) := by decide +kernel
theorem dX2_check_105 : decode cX2_check 105 = .ok (.iload_n 1, 1) := by decide +kernel
theorem dX2_check_106 : decode cX2_check 106 = .ok (.ifCond .ne 7, 3) := by decide +kernel
theorem dX2_check_109 : decode cX2_check 109 = .ok (.lconst 0, 1) := by decide +kernel
theorem dX2_check_110 : decode cX2_check 110 = .ok (.goto 12, 3) := by decide +kernel
theorem dX2_check_113 : decode cX2_check 113 = .ok (.aload_n 0, 1) := by decide +kernel
theorem dX2_check_114 : decode cX2_check 114 = .ok (.getfield 102, 3) := by decide +kernel
theorem dX2_check_117 : decode cX2_check 117 = .ok (.iload_n 1, 1) := by decide +kernel
theorem dX2_check_118 : decode cX2_check 118 = .ok (.iconst 1, 1) := by decide +kernel
theorem dX2_check_119 : decode cX2_check 119 = .ok (.isub, 1) := by decide +kernel
theorem dX2_check_120 : decode cX2_check 120 = .ok (.iaload, 1) := by decide +kernel
theorem dX2_check_121 : decode cX2_check 121 = .ok (.i2l, 1) := by decide +kernel
theorem dX2_check_122 : decode cX2_check 122 = .ok (.iload 6, 2) := by decide +kernel
theorem dX2_check_124 : decode cX2_check 124 = .ok (.aload_n 0, 1) := by decide +kernel
theorem dX2_check_125 : decode cX2_check 125 = .ok (.getfield 108, 3) := by decide +kernel
theorem dX2_check_128 : decode cX2_check 128 = .ok (.iload_n 1, 1) := by decide +kernel
theorem dX2_check_129 : decode cX2_check 129 = .ok (.iaload, 1) := by decide +kernel
theorem dX2_check_130 : decode cX2_check 130 = .ok (.idiv, 1) := by decide +kernel
theorem dX2_check_131 : decode cX2_check 131 = .ok (.i2l, 1) := by decide +kernel
theorem dX2_check_132 : decode cX2_check 132 = .ok (.ladd, 1) := by decide +kernel
theorem dX2_check_133 : decode cX2_check 133 = .ok (.lstore 7, 2) := by decide +kernel
theorem dX2_check_135 : decode cX2_check 135 = .ok (.iload 5, 2) := by decide +kernel
theorem dX2_check_137 : decode cX2_check 137 = .ok (.lload 7, 2) := by decide +kernel
theorem dX2_check_139 : decode cX2_check 139 = .ok (.bipush 30, 2) := by decide +kernel
theorem dX2_check_141 : decode cX2_check 141 = .ok (.invokestatic 250, 3) := by decide +kernel
theorem dX2_check_144 : decode cX2_check 144 = .ok (.if_icmp .eq 5, 3) := by decide +kernel
theorem dX2_check_147 : decode cX2_check 147 = .ok (.iconst 1, 1) := by decide +kernel
theorem dX2_check_148 : decode cX2_check 148 = .ok (.ireturn, 1) := by decide +kernel
theorem dX2_check_149 : decode cX2_check 149 = .ok (.iload 4, 2) := by decide +kernel
theorem dX2_check_151 : decode cX2_check 151 = .ok (.iload_n 1, 1) := by decide +kernel
theorem dX2_check_152 : decode cX2_check 152 = .ok (.ifCond .ne 7, 3) := by decide +kernel
theorem dX2_check_155 : decode cX2_check 155 = .ok (.lconst 0, 1) := by decide +kernel
theorem dX2_check_156 : decode cX2_check 156 = .ok (.goto 12, 3) := by decide +kernel
theorem dX2_check_159 : decode cX2_check 159 = .ok (.aload_n 0, 1) := by decide +kernel
theorem dX2_check_160 : decode cX2_check 160 = .ok (.getfield 99, 3) := by decide +kernel
theorem dX2_check_163 : decode cX2_check 163 = .ok (.iload_n 1, 1) := by decide +kernel
theorem dX2_check_164 : decode cX2_check 164 = .ok (.iconst 1, 1) := by decide +kernel
theorem dX2_check_165 : decode cX2_check 165 = .ok (.isub, 1) := by decide +kernel
theorem dX2_check_166 : decode cX2_check 166 = .ok (.iaload, 1) := by decide +kernel
theorem dX2_check_167 : decode cX2_check 167 = .ok (.i2l, 1) := by decide +kernel
theorem dX2_check_168 : decode cX2_check 168 = .ok (.iload 5, 2) := by decide +kernel
theorem dX2_check_170 : decode cX2_check 170 = .ok (.i2l, 1) := by decide +kernel
theorem dX2_check_171 : decode cX2_check 171 = .ok (.ladd, 1) := by decide +kernel
theorem dX2_check_172 : decode cX2_check 172 = .ok (.bipush 80, 2) := by decide +kernel
theorem dX2_check_174 : decode cX2_check 174 = .ok (.invokestatic 250, 3) := by decide +kernel
theorem dX2_check_177 : decode cX2_check 177 = .ok (.if_icmp .ne 7, 3) := by decide +kernel
theorem dX2_check_180 : decode cX2_check 180 = .ok (.iconst 0, 1) := by decide +kernel
theorem dX2_check_181 : decode cX2_check 181 = .ok (.goto 4, 3) := by decide +kernel
theorem dX2_check_184 : decode cX2_check 184 = .ok (.iconst 2, 1) := by decide +kernel
theorem dX2_check_185 : decode cX2_check 185 = .ok (.ireturn, 1) := by decide +kernel
set_option maxHeartbeats 4000000 in
theorem met_check (l : Launch) (D : va_G) (E : Nat → ClassId) (A : Nat → Prop) (h : Nat) (ad : Nat → Nat) (I : Nat → Int) (F : Nat → Int → Int) (t nb mk : Int) (r_t : R32 t) (r_n : R32 nb) (r_m : R32 mk) (gl : gKept I F) : MM l yX2_check cX2_check 9 (some .int) (mrm 1) D E A h ad [.int (iI t), .int (iI nb), .int (iI mk)] I F (MQi D E A h ad (fun z I1 F1 => checkS (I 26) (F 40) (F 36) (F 37) (F 38) (F 39) t nb mk = z ∧ I = I1 ∧ F = F1)) := by
  refine m_start (by decide) rfl (Nat.le_of_ble_eq_true rfl) ?_
  intro p e R s m args below meth c ls Q hR hQ hC hml hr hlk hM hS hl
  have hx := hC.1
  have hb := hC.2.1
  have hown := hC.2.2.1
  have hts := hC.2.2.2.1
  have hl : lv_has ls 9 [(0, .ref h), (1, .int (iI t)), (2, .int (iI nb)), (3, .int (iI mk))] := hl
  obtain ⟨i26, a36, a37, a38, a39, a40⟩ := gl
  refine lv_iload_n hx hb dX2_check_0 rfl (lv_at hl 1 rfl) ?_
  refine r_iconst hx hb dX2_check_1 ?_
  refine lv_aload_n hx hb dX2_check_2 rfl (lv_at hl 0 rfl) ?_
  refine mg_26 (v := I 26) hC hM rfl dX2_check_3 ?_
  refine r_iconst hx hb dX2_check_6 ?_
  refine r_isub hx hb dX2_check_7 ?_
  refine s_calli (kX2_X2_in (rest := []) (as := [.int (iI t), .int (iI 0), .int (iI ((I 26) - 1))]) hx hb hml hown hts (met_in l t 0 ((I 26) - 1) r_t (by decide) (by omega)) ⟨rfl, rfl⟩ hR (by decide) rfl hl.1 rfl (Nat.le_of_ble_eq_true rfl) dX2_check_8) ?_
  refine r_ifeqB (tgt := 32) hx hb dX2_check_11 (by decide) (fun c1 => ?_) (fun c1 => ?_)
  · refine r_iconst hx hb dX2_check_32 ?_
    exact m_iret hC hQ hr hlk hM hS dX2_check_33 (⟨by unfold checkS; rw [if_neg (by omega)], rfl, rfl⟩)
  · refine lv_iload_n hx hb dX2_check_14 rfl (lv_at hl 2 rfl) ?_
    refine r_iconst hx hb dX2_check_15 ?_
    refine r_iconst hx hb dX2_check_16 ?_
    refine s_calli (kX2_X2_in (rest := []) (as := [.int (iI nb), .int (iI 0), .int (iI 2)]) hx hb hml hown hts (met_in l nb 0 2 r_n (by decide) (by decide)) ⟨rfl, rfl⟩ hR (by decide) rfl hl.1 rfl (Nat.le_of_ble_eq_true rfl) dX2_check_17) ?_
    refine r_ifeqB (tgt := 32) hx hb dX2_check_20 (by decide) (fun c2 => ?_) (fun c2 => ?_)
    · refine r_iconst hx hb dX2_check_32 ?_
      exact m_iret hC hQ hr hlk hM hS dX2_check_33 (⟨by unfold checkS; rw [if_neg (by omega)], rfl, rfl⟩)
    · have b40 := a40 t (by omega) (by omega)
      refine lv_aload_n hx hb dX2_check_23 rfl (lv_at hl 0 rfl) ?_
      refine mg_40 hC hM dX2_check_24 ?_
      refine lv_iload_n hx hb dX2_check_27 rfl (lv_at hl 1 rfl) ?_
      refine ml_40 (v := F 40 t) hC hM (by omega) rfl dX2_check_28 ?_
      refine r_if_ne (tgt := 34) hx hb dX2_check_29 (by decide) (by omega) (fun c3 => ?_) (fun c3 => ?_)
      · have b36 := a36 t (by omega) (by omega)
        have b37 := a37 t (by omega) (by omega)
        have b38 := a38 t (by omega) (by omega)
        have b39 := a39 t (by omega) (by omega)
        have xa := xorZ_R (F 36 t) mk
        have xb := xorZ_R (F 37 t) mk
        have xc := xorZ_R (F 38 t) mk
        have rS : R32 (if nb = 0 then xorZ (F 36 t) mk else F 36 t) := by split <;> omega
        have rP : R32 (if nb = 1 then xorZ (F 37 t) mk else F 37 t) := by split <;> omega
        have rG : R32 (if nb = 2 then xorZ (F 38 t) mk else F 38 t) := by split <;> omega
        have bp36 : 1 ≤ t → -80 ≤ F 36 (t - 1) ∧ F 36 (t - 1) ≤ 80 := fun q => a36 (t - 1) (by omega) (by omega)
        have bp37 : 1 ≤ t → -30 ≤ F 37 (t - 1) ∧ F 37 (t - 1) ≤ 30 := fun q => a37 (t - 1) (by omega) (by omega)
        refine lv_iload_n hx hb dX2_check_34 rfl (lv_at hl 2 rfl) ?_
        have jn4 : W p l e R s m args below meth c s.heap [] 0 0 Q (F0 m 55 ls [.int (iI (if nb = 0 then xorZ (F 36 t) mk else F 36 t))]) := by
          refine lv_istore (lv' := [(4, .int (iI (if nb = 0 then xorZ (F 36 t) mk else F 36 t))), (0, .ref h), (1, .int (iI t)), (2, .int (iI nb)), (3, .int (iI mk))]) hx hb dX2_check_55 hl (by decide) rfl (fun ls hl => ?_)
          refine lv_iload_n hx hb dX2_check_57 rfl (lv_at hl 3 rfl) ?_
          refine r_iconst hx hb dX2_check_58 ?_
          have jn5 : W p l e R s m args below meth c s.heap [] 0 0 Q (F0 m 79 ls [.int (iI (if nb = 1 then xorZ (F 37 t) mk else F 37 t))]) := by
            refine lv_istore (lv' := [(5, .int (iI (if nb = 1 then xorZ (F 37 t) mk else F 37 t))), (4, .int (iI (if nb = 0 then xorZ (F 36 t) mk else F 36 t))), (0, .ref h), (1, .int (iI t)), (2, .int (iI nb)), (3, .int (iI mk))]) hx hb dX2_check_79 hl (by decide) rfl (fun ls hl => ?_)
            refine lv_iload_n hx hb dX2_check_81 rfl (lv_at hl 4 rfl) ?_
            refine r_iconst hx hb dX2_check_82 ?_
            have jn6 : W p l e R s m args below meth c s.heap [] 0 0 Q (F0 m 103 ls [.int (iI (if nb = 2 then xorZ (F 38 t) mk else F 38 t))]) := by
              refine lv_istore (lv' := [(6, .int (iI (if nb = 2 then xorZ (F 38 t) mk else F 38 t))), (5, .int (iI (if nb = 1 then xorZ (F 37 t) mk else F 37 t))), (4, .int (iI (if nb = 0 then xorZ (F 36 t) mk else F 36 t))), (0, .ref h), (1, .int (iI t)), (2, .int (iI nb)), (3, .int (iI mk))]) hx hb dX2_check_103 hl (by decide) rfl (fun ls hl => ?_)
              refine lv_iload_n hx hb dX2_check_105 rfl (lv_at hl 4 rfl) ?_
              have rQ : -80 ≤ (if t = 0 then 0 else F 37 (t - 1)) ∧ (if t = 0 then 0 else F 37 (t - 1)) ≤ 80 := by split; decide; have := bp37 (by omega); omega
              have rW : -80 ≤ (if t = 0 then 0 else F 36 (t - 1)) ∧ (if t = 0 then 0 else F 36 (t - 1)) ≤ 80 := by split; decide; have := bp36 (by omega); omega
              have jn7 : W p l e R s m args below meth c s.heap [] 0 0 Q (F0 m 122 ls [.long (iL (if t = 0 then 0 else F 37 (t - 1)))]) := by
                have hq := tdiv_bd (a := if nb = 2 then xorZ (F 38 t) mk else F 38 t) (b := F 39 t) (M := 2147483648) (by omega) (by omega)
                refine lv_iload hx hb dX2_check_122 (lv_at hl 0 rfl) ?_
                refine lv_aload_n hx hb dX2_check_124 rfl (lv_at hl 3 rfl) ?_
                refine mg_39 hC hM dX2_check_125 ?_
                refine lv_iload_n hx hb dX2_check_128 rfl (lv_at hl 4 rfl) ?_
                refine ml_39 (v := F 39 t) hC hM (by omega) rfl dX2_check_129 ?_
                refine r_idiv hx hb dX2_check_130 rG (by omega) (by omega) ?_
                refine r_i2l hx hb dX2_check_131 ⟨by omega, by have := tdiv_max rG b39; omega⟩ ?_
                refine r_ladd hx hb dX2_check_132 ?_
                refine lv_lstore (lv' := [(7, .long (iL ((if t = 0 then 0 else F 37 (t - 1)) + ((if nb = 2 then xorZ (F 38 t) mk else F 38 t).tdiv (F 39 t))))), (6, .int (iI (if nb = 2 then xorZ (F 38 t) mk else F 38 t))), (5, .int (iI (if nb = 1 then xorZ (F 37 t) mk else F 37 t))), (4, .int (iI (if nb = 0 then xorZ (F 36 t) mk else F 36 t))), (0, .ref h), (1, .int (iI t)), (2, .int (iI nb)), (3, .int (iI mk))]) hx hb dX2_check_133 hl (by decide) rfl (fun ls hl => ?_)
                refine lv_iload hx hb dX2_check_135 (lv_at hl 2 rfl) ?_
                refine lv_lload hx hb dX2_check_137 (lv_at hl 0 rfl) ?_
                refine r_bipush hx hb dX2_check_139 (by decide) ?_
                refine s_calli (kX2_X2_bounded (rest := [.int (iI (if nb = 1 then xorZ (F 37 t) mk else F 37 t))]) (as := [.long (iL ((if t = 0 then 0 else F 37 (t - 1)) + ((if nb = 2 then xorZ (F 38 t) mk else F 38 t).tdiv (F 39 t)))), .int (iI 30)]) hx hb hml hown hts (met_bounded l ((if t = 0 then 0 else F 37 (t - 1)) + ((if nb = 2 then xorZ (F 38 t) mk else F 38 t).tdiv (F 39 t))) 30 (by omega) (by decide)) ⟨rfl, rfl⟩ hR (by decide) rfl hl.1 rfl (Nat.le_of_ble_eq_true rfl) dX2_check_141) ?_
                refine r_icmp_eq (tgt := 149) hx hb dX2_check_144 (by decide) rP (by have := clampZ_bd (v := (if t = 0 then 0 else F 37 (t - 1)) + ((if nb = 2 then xorZ (F 38 t) mk else F 38 t).tdiv (F 39 t))) (m := 30) (by decide); omega) (fun cc => ?_) (fun cc => ?_)
                · refine lv_iload hx hb dX2_check_149 (lv_at hl 3 rfl) ?_
                  refine lv_iload_n hx hb dX2_check_151 rfl (lv_at hl 5 rfl) ?_
                  have jn8 : W p l e R s m args below meth c s.heap [] 0 0 Q (F0 m 168 ls [.long (iL (if t = 0 then 0 else F 36 (t - 1))), .int (iI (if nb = 0 then xorZ (F 36 t) mk else F 36 t))]) := by
                    refine lv_iload hx hb dX2_check_168 (lv_at hl 2 rfl) ?_
                    refine r_i2l hx hb dX2_check_170 rP ?_
                    refine r_ladd hx hb dX2_check_171 ?_
                    refine r_bipush hx hb dX2_check_172 (by decide) ?_
                    refine s_calli (kX2_X2_bounded (rest := [.int (iI (if nb = 0 then xorZ (F 36 t) mk else F 36 t))]) (as := [.long (iL ((if t = 0 then 0 else F 36 (t - 1)) + (if nb = 1 then xorZ (F 37 t) mk else F 37 t))), .int (iI 80)]) hx hb hml hown hts (met_bounded l ((if t = 0 then 0 else F 36 (t - 1)) + (if nb = 1 then xorZ (F 37 t) mk else F 37 t)) 80 (by omega) (by decide)) ⟨rfl, rfl⟩ hR (by decide) rfl hl.1 rfl (Nat.le_of_ble_eq_true rfl) dX2_check_174) ?_
                    refine r_icmp_ne (tgt := 184) hx hb dX2_check_177 (by decide) rS (by have := clampZ_bd (v := (if t = 0 then 0 else F 36 (t - 1)) + (if nb = 1 then xorZ (F 37 t) mk else F 37 t)) (m := 80) (by decide); omega) (fun cd => ?_) (fun cd => ?_)
                    · refine r_iconst hx hb dX2_check_184 ?_
                      exact m_iret hC hQ hr hlk hM hS dX2_check_185 (⟨by unfold checkS; rw [if_pos (by omega), if_neg (Decidable.not_not.mpr cc), if_neg cd], rfl, rfl⟩)
                    · refine r_iconst hx hb dX2_check_180 ?_
                      refine lv_goto (tgt := 185) hx hb dX2_check_181 (by decide) ?_
                      exact m_iret hC hQ hr hlk hM hS dX2_check_185 (⟨by unfold checkS; rw [if_pos (by omega), if_neg (Decidable.not_not.mpr cc), if_pos cd], rfl, rfl⟩)
                  refine r_if_ne (tgt := 159) hx hb dX2_check_152 (by decide) r_t (fun c9 => ?_) (fun c9 => ?_)
                  · have b36p := bp36 (by omega)
                    refine lv_aload_n hx hb dX2_check_159 rfl (lv_at hl 4 rfl) ?_
                    refine mg_36 hC hM dX2_check_160 ?_
                    refine lv_iload_n hx hb dX2_check_163 rfl (lv_at hl 5 rfl) ?_
                    refine r_iconst hx hb dX2_check_164 ?_
                    refine r_isub hx hb dX2_check_165 ?_
                    refine ml_36 (v := F 36 (t - 1)) hC hM (by omega) rfl dX2_check_166 ?_
                    refine r_i2l hx hb dX2_check_167 (by omega) ?_
                    rw [if_neg (by omega)] at jn8
                    exact jn8
                  · refine r_lconst hx hb 0 dX2_check_155 (by decide) ?_
                    refine lv_goto (tgt := 168) hx hb dX2_check_156 (by decide) ?_
                    rw [if_pos (by omega)] at jn8
                    exact jn8
                · refine r_iconst hx hb dX2_check_147 ?_
                  exact m_iret hC hQ hr hlk hM hS dX2_check_148 (⟨by unfold checkS; rw [if_pos (by omega), if_pos cc], rfl, rfl⟩)
              refine r_if_ne (tgt := 113) hx hb dX2_check_106 (by decide) r_t (fun c10 => ?_) (fun c10 => ?_)
              · have b37p := bp37 (by omega)
                refine lv_aload_n hx hb dX2_check_113 rfl (lv_at hl 3 rfl) ?_
                refine mg_37 hC hM dX2_check_114 ?_
                refine lv_iload_n hx hb dX2_check_117 rfl (lv_at hl 4 rfl) ?_
                refine r_iconst hx hb dX2_check_118 ?_
                refine r_isub hx hb dX2_check_119 ?_
                refine ml_37 (v := F 37 (t - 1)) hC hM (by omega) rfl dX2_check_120 ?_
                refine r_i2l hx hb dX2_check_121 (by omega) ?_
                rw [if_neg (by omega)] at jn7
                exact jn7
              · refine r_lconst hx hb 0 dX2_check_109 (by decide) ?_
                refine lv_goto (tgt := 122) hx hb dX2_check_110 (by decide) ?_
                rw [if_pos (by omega)] at jn7
                exact jn7
            refine r_icmp_ne (tgt := 97) hx hb dX2_check_83 (by decide) r_n (by decide) (fun c11 => ?_) (fun c11 => ?_)
            · refine lv_aload_n hx hb dX2_check_97 rfl (lv_at hl 2 rfl) ?_
              refine mg_38 hC hM dX2_check_98 ?_
              refine lv_iload_n hx hb dX2_check_101 rfl (lv_at hl 3 rfl) ?_
              refine ml_38 (v := F 38 t) hC hM (by omega) rfl dX2_check_102 ?_
              rw [if_neg (by omega)] at jn6
              exact jn6
            · refine lv_aload_n hx hb dX2_check_86 rfl (lv_at hl 2 rfl) ?_
              refine mg_38 hC hM dX2_check_87 ?_
              refine lv_iload_n hx hb dX2_check_90 rfl (lv_at hl 3 rfl) ?_
              refine ml_38 (v := F 38 t) hC hM (by omega) rfl dX2_check_91 ?_
              refine lv_iload_n hx hb dX2_check_92 rfl (lv_at hl 5 rfl) ?_
              refine r_ixor hx hb dX2_check_93 ?_
              refine lv_goto (tgt := 103) hx hb dX2_check_94 (by decide) ?_
              rw [if_pos (by omega)] at jn6
              exact jn6
          refine r_icmp_ne (tgt := 73) hx hb dX2_check_59 (by decide) r_n (by decide) (fun c12 => ?_) (fun c12 => ?_)
          · refine lv_aload_n hx hb dX2_check_73 rfl (lv_at hl 1 rfl) ?_
            refine mg_37 hC hM dX2_check_74 ?_
            refine lv_iload_n hx hb dX2_check_77 rfl (lv_at hl 2 rfl) ?_
            refine ml_37 (v := F 37 t) hC hM (by omega) rfl dX2_check_78 ?_
            rw [if_neg (by omega)] at jn5
            exact jn5
          · refine lv_aload_n hx hb dX2_check_62 rfl (lv_at hl 1 rfl) ?_
            refine mg_37 hC hM dX2_check_63 ?_
            refine lv_iload_n hx hb dX2_check_66 rfl (lv_at hl 2 rfl) ?_
            refine ml_37 (v := F 37 t) hC hM (by omega) rfl dX2_check_67 ?_
            refine lv_iload_n hx hb dX2_check_68 rfl (lv_at hl 4 rfl) ?_
            refine r_ixor hx hb dX2_check_69 ?_
            refine lv_goto (tgt := 79) hx hb dX2_check_70 (by decide) ?_
            rw [if_pos (by omega)] at jn5
            exact jn5
        refine r_if_ne (tgt := 49) hx hb dX2_check_35 (by decide) r_n (fun c13 => ?_) (fun c13 => ?_)
        · refine lv_aload_n hx hb dX2_check_49 rfl (lv_at hl 0 rfl) ?_
          refine mg_36 hC hM dX2_check_50 ?_
          refine lv_iload_n hx hb dX2_check_53 rfl (lv_at hl 1 rfl) ?_
          refine ml_36 (v := F 36 t) hC hM (by omega) rfl dX2_check_54 ?_
          rw [if_neg (by omega)] at jn4
          exact jn4
        · refine lv_aload_n hx hb dX2_check_38 rfl (lv_at hl 0 rfl) ?_
          refine mg_36 hC hM dX2_check_39 ?_
          refine lv_iload_n hx hb dX2_check_42 rfl (lv_at hl 1 rfl) ?_
          refine ml_36 (v := F 36 t) hC hM (by omega) rfl dX2_check_43 ?_
          refine lv_iload_n hx hb dX2_check_44 rfl (lv_at hl 3 rfl) ?_
          refine r_ixor hx hb dX2_check_45 ?_
          refine lv_goto (tgt := 55) hx hb dX2_check_46 (by decide) ?_
          rw [if_pos (by omega)] at jn4
          exact jn4
      · refine r_iconst hx hb dX2_check_32 ?_
        exact m_iret hC hQ hr hlk hM hS dX2_check_33 (⟨by unfold checkS; rw [if_neg (by omega)], rfl, rfl⟩)
