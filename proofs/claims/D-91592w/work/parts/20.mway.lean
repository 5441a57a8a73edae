/-! THE MODEL: the way -/
set_option maxRecDepth 100000

def stpB (le re q : Int) : Int := if re ≠ -1 ∧ (le = -1 ∨ re + q < le) then re + q else le
def foldB (rst q : Int → Int) : Nat → Int
  | 0 => -1
  | n + 1 => stpB (foldB rst q n) (rst n) (q n)
theorem foldB_s (rst q : Int → Int) {v : Int} (h : 0 ≤ v) : foldB rst q (v + 1).toNat = stpB (foldB rst q v.toNat) (rst v) (q v) := by
  have e : (v + 1).toNat = v.toNat + 1 := by omega
  have e2 : ((v.toNat : Nat) : Int) = v := by omega
  rw [e]
  show stpB (foldB rst q v.toNat) (rst ((v.toNat : Nat) : Int)) (q ((v.toNat : Nat) : Int)) = _
  rw [e2]
/-- the least sum with d hours yet, for m miles -/
def lstS (per hei : Int → Int) (own hrs : Int) : Nat → Int → Int
  | 0, m => if m = 0 then 0 else -1
  | d + 1, m => foldB (fun v => lstS per hei own hrs d (if m < v then 0 else m - v)) (queasyS per hei own (hrs - (d + 1))) 4
def Lw (I : Nat → Int) (F : Nat → Int → Int) (h m : Int) : Int := lstS (F 43) (F 42) (I 44) (I 41) (I 41 - h).toNat m
theorem Lw_s (I : Nat → Int) (F : Nat → Int → Int) {h : Int} (m : Int) (h1 : h < I 41) : Lw I F h m = foldB (fun v => Lw I F (h + 1) (if m < v then 0 else m - v)) (queasyS (F 43) (F 42) (I 44) h) 4 := by
  have e : (I 41 - h).toNat = (I 41 - (h + 1)).toNat + 1 := by omega
  unfold Lw
  rw [e]
  show foldB _ (queasyS (F 43) (F 42) (I 44) (I 41 - (((I 41 - (h + 1)).toNat : Nat) + 1))) 4 = _
  rw [show I 41 - ((((I 41 - (h + 1)).toNat : Nat) : Int) + 1) = h by omega]
theorem queasyS_bd {per hei : Int → Int} {own h : Int} (go : Int) (hh : 0 ≤ hei h ∧ hei h ≤ 60) : 0 ≤ queasyS per hei own h go ∧ queasyS per hei own h go ≤ 3840 := by
  have h0 : 0 ≤ (per h - go - own) * (per h - go - own) := sq_nn _
  unfold queasyS
  rw [Int.tdiv_eq_ediv_of_nonneg (by omega)]
  have h1 := Int.ediv_nonneg (show 0 ≤ 64 * hei h by omega) (show 0 ≤ 1 + (per h - go - own) * (per h - go - own) by omega)
  have h2 := Int.ediv_le_self (1 + (per h - go - own) * (per h - go - own)) (show 0 ≤ 64 * hei h by omega)
  omega
theorem stpB_bd {le re q M : Int} (h1 : -1 ≤ le ∧ le ≤ M + 3840) (h2 : -1 ≤ re ∧ re ≤ M) (h3 : 0 ≤ q ∧ q ≤ 3840) : -1 ≤ stpB le re q ∧ stpB le re q ≤ M + 3840 := by
  unfold stpB
  split <;> omega
theorem foldB_bd {rst q : Int → Int} {M : Int} (hM : 0 ≤ M) (h2 : ∀ v, -1 ≤ rst v ∧ rst v ≤ M) (h3 : ∀ v, 0 ≤ q v ∧ q v ≤ 3840) : ∀ n : Nat, -1 ≤ foldB rst q n ∧ foldB rst q n ≤ M + 3840
  | 0 => ⟨Int.le_refl _, by show -1 ≤ M + 3840; omega⟩
  | n + 1 => stpB_bd (foldB_bd hM h2 h3 n) (h2 _) (h3 _)
theorem lstS_bd {per hei : Int → Int} {own hrs : Int} (hh : Bd hei 12 0 60) (hr : hrs ≤ 12) : ∀ (d : Nat) (m : Int), (d : Int) ≤ hrs → -1 ≤ lstS per hei own hrs d m ∧ lstS per hei own hrs d m ≤ 3840 * d
  | 0, m, _ => by
    unfold lstS
    split <;> omega
  | d + 1, m, hd => by
    have h := foldB_bd (rst := fun v => lstS per hei own hrs d (if m < v then 0 else m - v)) (q := queasyS per hei own (hrs - (d + 1))) (M := 3840 * d) (by omega) (fun v => lstS_bd hh hr d _ (by omega)) (fun v => queasyS_bd v (hh _ (by omega) (by omega))) 4
    show -1 ≤ foldB _ _ 4 ∧ foldB _ _ 4 ≤ 3840 * ((d + 1 : Nat) : Int)
    omega
theorem Lw_bd {I : Nat → Int} {F : Nat → Int → Int} (gw : gWay I F) (h m : Int) (h0 : 0 ≤ h) : -1 ≤ Lw I F h m ∧ Lw I F h m ≤ 46080 := by
  obtain ⟨i41, i44, a42, a43⟩ := gw
  have := lstS_bd (per := F 43) (hei := F 42) (own := I 44) (hrs := I 41) a42 i41.2 (I 41 - h).toNat m (by omega)
  unfold Lw
  omega
abbrev cdB (L : Int → Int → Int) (q : Int → Int → Int) (h m v : Int) : Prop := L (h + 1) (if m < v then 0 else m - v) ≠ -1 ∧ L (h + 1) (if m < v then 0 else m - v) + q h v = L h m
def pickS (L : Int → Int → Int) (q : Int → Int → Int) (h m : Int) : Int := if cdB L q h m 0 then 0 else if cdB L q h m 1 then 1 else if cdB L q h m 2 then 2 else 3
theorem pickS_in (L : Int → Int → Int) (q : Int → Int → Int) (h m : Int) : 0 ≤ pickS L q h m ∧ pickS L q h m ≤ 3 := by
  unfold pickS
  repeat' split
  all_goals decide
theorem pickS_eq {L : Int → Int → Int} {q : Int → Int → Int} {h m v : Int} (h0 : 0 ≤ v ∧ v ≤ 3) (hn : ∀ u, 0 ≤ u → u < v → ¬ cdB L q h m u) (hy : v = 3 ∨ cdB L q h m v) : pickS L q h m = v := by
  unfold pickS
  rcases (show v = 0 ∨ v = 1 ∨ v = 2 ∨ v = 3 by omega) with rfl | rfl | rfl | rfl
  · rw [if_pos (hy.resolve_left (by decide))]
  · rw [if_neg (hn 0 (by decide) (by decide)), if_pos (hy.resolve_left (by decide))]
  · rw [if_neg (hn 0 (by decide) (by decide)), if_neg (hn 1 (by decide) (by decide)), if_pos (hy.resolve_left (by decide))]
  · rw [if_neg (hn 0 (by decide) (by decide)), if_neg (hn 1 (by decide) (by decide)), if_neg (hn 2 (by decide) (by decide))]
/-- the miles yet to go at an hour -/
def wayM (pk : Int → Int → Int) (mi : Int) : Nat → Int
  | 0 => mi
  | h + 1 => if wayM pk mi h < pk h (wayM pk mi h) then 0 else wayM pk mi h - pk h (wayM pk mi h)
theorem wayM_s (pk : Int → Int → Int) (mi : Int) {h : Int} (h0 : 0 ≤ h) : wayM pk mi (h + 1).toNat = if wayM pk mi h.toNat < pk h (wayM pk mi h.toNat) then 0 else wayM pk mi h.toNat - pk h (wayM pk mi h.toNat) := by
  have e : (h + 1).toNat = h.toNat + 1 := by omega
  have e2 : ((h.toNat : Nat) : Int) = h := by omega
  rw [e]
  show (if wayM pk mi h.toNat < pk ((h.toNat : Nat) : Int) _ then 0 else wayM pk mi h.toNat - pk ((h.toNat : Nat) : Int) _) = _
  rw [e2]
def qwS (I : Nat → Int) (F : Nat → Int → Int) : Int → Int → Int := queasyS (F 43) (F 42) (I 44)
def bestS (I : Nat → Int) (F : Nat → Int → Int) (mi k : Int) : Int := if (0 ≤ mi ∧ mi ≤ 3 * I 41) ∧ (-1 ≤ k ∧ k ≤ I 41 - 1) then (if k = -1 then Lw I F 0 mi else pickS (Lw I F) (qwS I F) k (wayM (pickS (Lw I F) (qwS I F)) mi k.toNat)) else -1
theorem dX2_restBy_0 : decode cX2_restBy 0 = .ok (.aload_n 0, 1) := by decide +kernel
theorem dX2_restBy_1 : decode cX2_restBy 1 = .ok (.getfield 170, 3) := by decide +kernel
theorem dX2_restBy_4 : decode cX2_restBy 4 = .ok (.bipush 37, 2) := by decide +kernel
theorem dX2_restBy_6 : decode cX2_restBy 6 = .ok (.iload_n 1, 1) := by decide +kernel
theorem dX2_restBy_7 : decode cX2_restBy 7 = .ok (.iconst 1, 1) := by decide +kernel
theorem dX2_restBy_8 : decode cX2_restBy 8 = .ok (.iadd, 1) := by decide +kernel
theorem dX2_restBy_9 : decode cX2_restBy 9 = .ok (.imul, 1) := by decide +kernel
theorem dX2_restBy_10 : decode cX2_restBy 10 = .ok (.iload_n 2, 1) := by decide +kernel
theorem dX2_restBy_11 : decode cX2_restBy 11 = .ok (.iload_n 3, 1) := by decide +kernel
theorem dX2_restBy_12 : decode cX2_restBy 12 = .ok (.if_icmp .ge 7, 3) := by decide +kernel
theorem dX2_restBy_15 : decode cX2_restBy 15 = .ok (.iconst 0, 1) := by decide +kernel
theorem dX2_restBy_16 : decode cX2_restBy 16 = .ok (.goto 6, 3) := by decide +kernel
theorem dX2_restBy_19 : decode cX2_restBy 19 = .ok (.iload_n 2, 1) := by decide +kernel
theorem dX2_restBy_20 : decode cX2_restBy 20 = .ok (.iload_n 3, 1) := by decide +kernel
theorem dX2_restBy_21 : decode cX2_restBy 21 = .ok (.isub, 1) := by decide +kernel
theorem dX2_restBy_22 : decode cX2_restBy 22 = .ok (.iadd, 1) := by decide +kernel
theorem dX2_restBy_23 : decode cX2_restBy 23 = .ok (.iaload, 1) := by decide +kernel
theorem dX2_restBy_24 : decode cX2_restBy 24 = .ok (.ireturn, 1) := by decide +kernel
set_option maxHeartbeats 4000000 in
theorem met_restBy (l : Launch) (D : va_G) (E : Nat → ClassId) (A : Nat → Prop) (h : Nat) (ad : Nat → Nat) (I : Nat → Int) (F : Nat → Int → Int) (ho mi v : Int) (hh : 0 ≤ ho ∧ ho < 12) (hm : 0 ≤ mi ∧ mi < 37) (hv : 0 ≤ v ∧ v ≤ 3) : MM l yX2_restBy cX2_restBy 4 (some .int) (mrm 0) D E A h ad [.int (iI ho), .int (iI mi), .int (iI v)] I F (MQi D E A h ad (fun z I1 F1 => F 74 (37 * (ho + 1) + (if mi < v then 0 else mi - v)) = z ∧ I = I1 ∧ F = F1)) := by
  refine m_start (by decide) rfl (Nat.le_of_ble_eq_true rfl) ?_
  intro p e R s m args below meth c ls Q hR hQ hC hml hr hlk hM hS hl
  have hx := hC.1
  have hb := hC.2.1
  have hown := hC.2.2.1
  have hts := hC.2.2.2.1
  have hl : lv_has ls 4 [(0, .ref h), (1, .int (iI ho)), (2, .int (iI mi)), (3, .int (iI v))] := hl
  refine lv_aload_n hx hb dX2_restBy_0 rfl (lv_at hl 0 rfl) ?_
  refine mg_74 hC hM dX2_restBy_1 ?_
  refine r_bipush hx hb dX2_restBy_4 (by decide) ?_
  refine lv_iload_n hx hb dX2_restBy_6 rfl (lv_at hl 1 rfl) ?_
  refine r_iconst hx hb dX2_restBy_7 ?_
  refine r_iadd hx hb dX2_restBy_8 ?_
  refine r_imul hx hb dX2_restBy_9 ?_
  refine lv_iload_n hx hb dX2_restBy_10 rfl (lv_at hl 2 rfl) ?_
  refine lv_iload_n hx hb dX2_restBy_11 rfl (lv_at hl 3 rfl) ?_
  have hix : 0 ≤ (if mi < v then 0 else mi - v) ∧ (if mi < v then 0 else mi - v) < 37 := by split <;> omega
  have jn1 : W p l e R s m args below meth c s.heap [] 0 0 Q (F0 m 22 ls [.int (iI (if mi < v then 0 else mi - v)), .int (iI (37 * (ho + 1))), .ref (ad 74)]) := by
    refine r_iadd hx hb dX2_restBy_22 ?_
    refine ml_74 (v := F 74 ((37 * (ho + 1)) + (if mi < v then 0 else mi - v))) hC hM (by omega) rfl dX2_restBy_23 ?_
    exact m_iret hC hQ hr hlk hM hS dX2_restBy_24 (⟨rfl, rfl, rfl⟩)
  refine r_icmp_ge (tgt := 19) hx hb dX2_restBy_12 (by decide) (by omega) (by omega) (fun c2 => ?_) (fun c2 => ?_)
  · refine lv_iload_n hx hb dX2_restBy_19 rfl (lv_at hl 2 rfl) ?_
    refine lv_iload_n hx hb dX2_restBy_20 rfl (lv_at hl 3 rfl) ?_
    refine r_isub hx hb dX2_restBy_21 ?_
    rw [if_neg (by omega)] at jn1
    exact jn1
  · refine r_iconst hx hb dX2_restBy_15 ?_
    refine lv_goto (tgt := 22) hx hb dX2_restBy_16 (by decide) ?_
    rw [if_pos (by omega)] at jn1
    exact jn1
theorem dX2_best_0 : decode cX2_best 0 = .ok (.iload_n 1, 1) := by decide +kernel
theorem dX2_best_1 : decode cX2_best 1 = .ok (.iconst 0, 1) := by decide +kernel
theorem dX2_best_2 : decode cX2_best 2 = .ok (.iconst 3, 1) := by decide +kernel
theorem dX2_best_3 : decode cX2_best 3 = .ok (.aload_n 0, 1) := by decide +kernel
theorem dX2_best_4 : decode cX2_best 4 = .ok (.getfield 368, 3) := by decide +kernel
theorem dX2_best_7 : decode cX2_best 7 = .ok (.imul, 1) := by decide +kernel
theorem dX2_best_8 : decode cX2_best 8 = .ok (.invokestatic 173, 3) := by decide +kernel
theorem dX2_best_11 : decode cX2_best 11 = .ok (.ifCond .eq 17, 3) := by decide +kernel
theorem dX2_best_14 : decode cX2_best 14 = .ok (.iload_n 2, 1) := by decide +kernel
theorem dX2_best_15 : decode cX2_best 15 = .ok (.iconst (-1), 1) := by decide +kernel
theorem dX2_best_16 : decode cX2_best 16 = .ok (.aload_n 0, 1) := by decide +kernel
theorem dX2_best_17 : decode cX2_best 17 = .ok (.getfield 368, 3) := by decide +kernel
theorem dX2_best_20 : decode cX2_best 20 = .ok (.iconst 1, 1) := by decide +kernel
theorem dX2_best_21 : decode cX2_best 21 = .ok (.isub, 1) := by decide +kernel
theorem dX2_best_22 : decode cX2_best 22 = .ok (.invokestatic 173, 3) := by decide +kernel
theorem dX2_best_25 : decode cX2_best 25 = .ok (.ifCond .ne 5, 3) := by decide +kernel
theorem dX2_best_28 : decode cX2_best 28 = .ok (.iconst (-1), 1) := by decide +kernel
theorem dX2_best_29 : decode cX2_best 29 = .ok (.ireturn, 1) := by decide +kernel
theorem dX2_best_30 : decode cX2_best 30 = .ok (.iconst 0, 1) := by decide +kernel
theorem dX2_best_31 : decode cX2_best 31 = .ok (.istore_n 3, 1) := by decide +kernel
theorem dX2_best_32 : decode cX2_best 32 = .ok (.iload_n 3, 1) := by decide +kernel
theorem dX2_best_33 : decode cX2_best 33 = .ok (.bipush 37, 2) := by decide +kernel
theorem dX2_best_35 : decode cX2_best 35 = .ok (.if_icmp .ge 32, 3) := by decide +kernel
theorem dX2_best_38 : decode cX2_best 38 = .ok (.aload_n 0, 1) := by decide +kernel
theorem dX2_best_39 : decode cX2_best 39 = .ok (.getfield 170, 3) := by decide +kernel
theorem dX2_best_42 : decode cX2_best 42 = .ok (.bipush 37, 2) := by decide +kernel
theorem dX2_best_44 : decode cX2_best 44 = .ok (.aload_n 0, 1) := by decide +kernel
theorem dX2_best_45 : decode cX2_best 45 = .ok (.getfield 368, 3) := by decide +kernel
theorem dX2_best_48 : decode cX2_best 48 = .ok (.imul, 1) := by decide +kernel
theorem dX2_best_49 : decode cX2_best 49 = .ok (.iload_n 3, 1) := by decide +kernel
theorem dX2_best_50 : decode cX2_best 50 = .ok (.iadd, 1) := by decide +kernel
theorem dX2_best_51 : decode cX2_best 51 = .ok (.iload_n 3, 1) := by decide +kernel
theorem dX2_best_52 : decode cX2_best 52 = .ok (.ifCond .ne 7, 3) := by decide +kernel
theorem dX2_best_55 : decode cX2_best 55 = .ok (.iconst 0, 1) := by decide +kernel
theorem dX2_best_56 : decode cX2_best 56 = .ok (.goto 4, 3) := by decide +kernel
theorem dX2_best_59 : decode cX2_best 59 = .ok (.iconst (-1), 1) := by decide +kernel
theorem dX2_best_60 : decode cX2_best 60 = .ok (.iastore, 1) := by decide +kernel
theorem dX2_best_61 : decode cX2_best 61 = .ok (.iinc 3 1, 3) := by decide +kernel
theorem dX2_best_64 : decode cX2_best 64 = .ok (.goto (-32), 3) := by decide +kernel
theorem dX2_best_67 : decode cX2_best 67 = .ok (.aload_n 0, 1) := by decide +kernel
theorem dX2_best_68 : decode cX2_best 68 = .ok (.getfield 368, 3) := by decide +kernel
theorem dX2_best_71 : decode cX2_best 71 = .ok (.iconst 1, 1) := by decide +kernel
theorem dX2_best_72 : decode cX2_best 72 = .ok (.isub, 1) := by decide +kernel
theorem dX2_best_73 : decode cX2_best 73 = .ok (.istore_n 3, 1) := by decide +kernel
theorem dX2_best_74 : decode cX2_best 74 = .ok (.iload_n 3, 1) := by decide +kernel
theorem dX2_best_75 : decode cX2_best 75 = .ok (.ifCond .lt 107, 3) := by decide +kernel
theorem dX2_best_78 : decode cX2_best 78 = .ok (.iconst 0, 1) := by decide +kernel
theorem dX2_best_79 : decode cX2_best 79 = .ok (.istore 4, 2) := by decide +kernel
theorem dX2_best_81 : decode cX2_best 81 = .ok (.iload 4, 2) := by decide +kernel
theorem dX2_best_83 : decode cX2_best 83 = .ok (.bipush 37, 2) := by decide +kernel
theorem dX2_best_85 : decode cX2_best 85 = .ok (.if_icmp .ge 91, 3) := by decide +kernel
theorem dX2_best_88 : decode cX2_best 88 = .ok (.iconst (-1), 1) := by decide +kernel
theorem dX2_best_89 : decode cX2_best 89 = .ok (.istore 5, 2) := by decide +kernel
theorem dX2_best_91 : decode cX2_best 91 = .ok (.iconst 0, 1) := by decide +kernel
theorem dX2_best_92 : decode cX2_best 92 = .ok (.istore 6, 2) := by decide +kernel
theorem dX2_best_94 : decode cX2_best 94 = .ok (.iload 6, 2) := by decide +kernel
theorem dX2_best_96 : decode cX2_best 96 = .ok (.iconst 4, 1) := by decide +kernel
theorem dX2_best_97 : decode cX2_best 97 = .ok (.if_icmp .ge 59, 3) := by decide +kernel
theorem dX2_best_100 : decode cX2_best 100 = .ok (.aload_n 0, 1) := by decide +kernel
theorem dX2_best_101 : decode cX2_best 101 = .ok (.iload_n 3, 1) := by decide +kernel
theorem dX2_best_102 : decode cX2_best 102 = .ok (.iload 4, 2) := by decide +kernel
theorem dX2_best_104 : decode cX2_best 104 = .ok (.iload 6, 2) := by decide +kernel
theorem dX2_best_106 : decode cX2_best 106 = .ok (.invokevirtual 371, 3) := by decide +kernel
theorem dX2_best_109 : decode cX2_best 109 = .ok (.istore 7, 2) := by decide +kernel
theorem dX2_best_111 : decode cX2_best 111 = .ok (.iload 7, 2) := by decide +kernel
theorem dX2_best_113 : decode cX2_best 113 = .ok (.iconst (-1), 1) := by decide +kernel
theorem dX2_best_114 : decode cX2_best 114 = .ok (.if_icmp .eq 36, 3) := by decide +kernel
theorem dX2_best_117 : decode cX2_best 117 = .ok (.iload 5, 2) := by decide +kernel
theorem dX2_best_119 : decode cX2_best 119 = .ok (.iconst (-1), 1) := by decide +kernel
theorem dX2_best_120 : decode cX2_best 120 = .ok (.if_icmp .eq 18, 3) := by decide +kernel
theorem dX2_best_123 : decode cX2_best 123 = .ok (.iload 7, 2) := by decide +kernel
theorem dX2_best_125 : decode cX2_best 125 = .ok (.aload_n 0, 1) := by decide +kernel
theorem dX2_best_126 : decode cX2_best 126 = .ok (.iload_n 3, 1) := by decide +kernel
theorem dX2_best_127 : decode cX2_best 127 = .ok (.iload 6, 2) := by decide +kernel
theorem dX2_best_129 : decode cX2_best 129 = .ok (.invokevirtual 374, 3) := by decide +kernel
theorem dX2_best_132 : decode cX2_best 132 = .ok (.iadd, 1) := by decide +kernel
theorem dX2_best_133 : decode cX2_best 133 = .ok (.iload 5, 2) := by decide +kernel
theorem dX2_best_135 : decode cX2_best 135 = .ok (.if_icmp .ge 15, 3) := by decide +kernel
theorem dX2_best_138 : decode cX2_best 138 = .ok (.iload 7, 2) := by decide +kernel
theorem dX2_best_140 : decode cX2_best 140 = .ok (.aload_n 0, 1) := by decide +kernel
theorem dX2_best_141 : decode cX2_best 141 = .ok (.iload_n 3, 1) := by decide +kernel
theorem dX2_best_142 : decode cX2_best 142 = .ok (.iload 6, 2) := by decide +kernel
theorem dX2_best_144 : decode cX2_best 144 = .ok (.invokevirtual 374, 3) := by decide +kernel
theorem dX2_best_147 : decode cX2_best 147 = .ok (.iadd, 1) := by decide +kernel
theorem dX2_best_148 : decode cX2_best 148 = .ok (.istore 5, 2) := by decide +kernel
theorem dX2_best_150 : decode cX2_best 150 = .ok (.iinc 6 1, 3) := by decide +kernel
theorem dX2_best_153 : decode cX2_best 153 = .ok (.goto (-59), 3) := by decide +kernel
theorem dX2_best_156 : decode cX2_best 156 = .ok (.aload_n 0, 1) := by decide +kernel
theorem dX2_best_157 : decode cX2_best 157 = .ok (.getfield 170, 3) := by decide +kernel
theorem dX2_best_160 : decode cX2_best 160 = .ok (.bipush 37, 2) := by decide +kernel
theorem dX2_best_162 : decode cX2_best 162 = .ok (.iload_n 3, 1) := by decide +kernel
theorem dX2_best_163 : decode cX2_best 163 = .ok (.imul, 1) := by decide +kernel
theorem dX2_best_164 : decode cX2_best 164 = .ok (.iload 4, 2) := by decide +kernel
theorem dX2_best_166 : decode cX2_best 166 = .ok (.iadd, 1) := by decide +kernel
theorem dX2_best_167 : decode cX2_best 167 = .ok (.iload 5, 2) := by decide +kernel
theorem dX2_best_169 : decode cX2_best 169 = .ok (.iastore, 1) := by decide +kernel
theorem dX2_best_170 : decode cX2_best 170 = .ok (.iinc 4 1, 3) := by decide +kernel
theorem dX2_best_173 : decode cX2_best 173 = .ok (.goto (-92), 3) := by decide +kernel
theorem dX2_best_176 : decode cX2_best 176 = .ok (.iinc 3 (-1), 3) := by decide +kernel
theorem dX2_best_179 : decode cX2_best 179 = .ok (.goto (-105), 3) := by decide +kernel
theorem dX2_best_182 : decode cX2_best 182 = .ok (.iload_n 2, 1) := by decide +kernel
theorem dX2_best_183 : decode cX2_best 183 = .ok (.iconst (-1), 1) := by decide +kernel
theorem dX2_best_184 : decode cX2_best 184 = .ok (.if_icmp .ne 10, 3) := by decide +kernel
theorem dX2_best_187 : decode cX2_best 187 = .ok (.aload_n 0, 1) := by decide +kernel
theorem dX2_best_188 : decode cX2_best 188 = .ok (.getfield 170, 3) := by decide +kernel
theorem dX2_best_191 : decode cX2_best 191 = .ok (.iload_n 1, 1) := by decide +kernel
theorem dX2_best_192 : decode cX2_best 192 = .ok (.iaload, 1) := by decide +kernel
theorem dX2_best_193 : decode cX2_best 193 = .ok (.ireturn, 1) := by decide +kernel
theorem dX2_best_194 : decode cX2_best 194 = .ok (.iload_n 1, 1) := by decide +kernel
theorem dX2_best_195 : decode cX2_best 195 = .ok (.istore_n 3, 1) := by decide +kernel
theorem dX2_best_196 : decode cX2_best 196 = .ok (.iconst 0, 1) := by decide +kernel
theorem dX2_best_197 : decode cX2_best 197 = .ok (.istore 4, 2) := by decide +kernel
theorem dX2_best_199 : decode cX2_best 199 = .ok (.iconst 0, 1) := by decide +kernel
theorem dX2_best_200 : decode cX2_best 200 = .ok (.istore 5, 2) := by decide +kernel
theorem dX2_best_202 : decode cX2_best 202 = .ok (.iload 5, 2) := by decide +kernel
theorem dX2_best_204 : decode cX2_best 204 = .ok (.iload_n 2, 1) := by decide +kernel
theorem dX2_best_205 : decode cX2_best 205 = .ok (.if_icmp .gt 85, 3) := by decide +kernel
theorem dX2_best_208 : decode cX2_best 208 = .ok (.iconst 0, 1) := by decide +kernel
theorem dX2_best_209 : decode cX2_best 209 = .ok (.istore 4, 2) := by decide +kernel
theorem dX2_best_211 : decode cX2_best 211 = .ok (.iload 4, 2) := by decide +kernel
theorem dX2_best_213 : decode cX2_best 213 = .ok (.iconst 3, 1) := by decide +kernel
theorem dX2_best_214 : decode cX2_best 214 = .ok (.if_icmp .ge 55, 3) := by decide +kernel
theorem dX2_best_217 : decode cX2_best 217 = .ok (.aload_n 0, 1) := by decide +kernel
theorem dX2_best_218 : decode cX2_best 218 = .ok (.iload 5, 2) := by decide +kernel
theorem dX2_best_220 : decode cX2_best 220 = .ok (.iload_n 3, 1) := by decide +kernel
theorem dX2_best_221 : decode cX2_best 221 = .ok (.iload 4, 2) := by decide +kernel
theorem dX2_best_223 : decode cX2_best 223 = .ok (.invokevirtual 371, 3) := by decide +kernel
theorem dX2_best_226 : decode cX2_best 226 = .ok (.iconst (-1), 1) := by decide +kernel
theorem dX2_best_227 : decode cX2_best 227 = .ok (.if_icmp .eq 36, 3) := by decide +kernel
theorem dX2_best_230 : decode cX2_best 230 = .ok (.aload_n 0, 1) := by decide +kernel
theorem dX2_best_231 : decode cX2_best 231 = .ok (.iload 5, 2) := by decide +kernel
theorem dX2_best_233 : decode cX2_best 233 = .ok (.iload_n 3, 1) := by decide +kernel
theorem dX2_best_234 : decode cX2_best 234 = .ok (.iload 4, 2) := by decide +kernel
theorem dX2_best_236 : decode cX2_best 236 = .ok (.invokevirtual 371, 3) := by decide +kernel
theorem dX2_best_239 : decode cX2_best 239 = .ok (.aload_n 0, 1) := by decide +kernel
theorem dX2_best_240 : decode cX2_best 240 = .ok (.iload 5, 2) := by decide +kernel
theorem dX2_best_242 : decode cX2_best 242 = .ok (.iload 4, 2) := by decide +kernel
theorem dX2_best_244 : decode cX2_best 244 = .ok (.invokevirtual 374, 3) := by decide +kernel
theorem dX2_best_247 : decode cX2_best 247 = .ok (.iadd, 1) := by decide +kernel
theorem dX2_best_248 : decode cX2_best 248 = .ok (.aload_n 0, 1) := by decide +kernel
theorem dX2_best_249 : decode cX2_best 249 = .ok (.getfield 170, 3) := by decide +kernel
theorem dX2_best_252 : decode cX2_best 252 = .ok (.bipush 37, 2) := by decide +kernel
theorem dX2_best_254 : decode cX2_best 254 = .ok (.iload 5, 2) := by decide +kernel
theorem dX2_best_256 : decode cX2_best 256 = .ok (.imul, 1) := by decide +kernel
theorem dX2_best_257 : decode cX2_best 257 = .ok (.iload_n 3, 1) := by decide +kernel
theorem dX2_best_258 : decode cX2_best 258 = .ok (.iadd, 1) := by decide +kernel
theorem dX2_best_259 : decode cX2_best 259 = .ok (.iaload, 1) := by decide +kernel
theorem dX2_best_260 : decode cX2_best 260 = .ok (.if_icmp .eq 9, 3) := by decide +kernel
theorem dX2_best_263 : decode cX2_best 263 = .ok (.iinc 4 1, 3) := by decide +kernel
theorem dX2_best_266 : decode cX2_best 266 = .ok (.goto (-55), 3) := by decide +kernel
theorem dX2_best_269 : decode cX2_best 269 = .ok (.iload_n 3, 1) := by decide +kernel
theorem dX2_best_270 : decode cX2_best 270 = .ok (.iload 4, 2) := by decide +kernel
theorem dX2_best_272 : decode cX2_best 272 = .ok (.if_icmp .ge 7, 3) := by decide +kernel
theorem dX2_best_275 : decode cX2_best 275 = .ok (.iconst 0, 1) := by decide +kernel
theorem dX2_best_276 : decode cX2_best 276 = .ok (.goto 7, 3) := by decide +kernel
theorem dX2_best_279 : decode cX2_best 279 = .ok (.iload_n 3, 1) := by decide +kernel
theorem dX2_best_280 : decode cX2_best 280 = .ok (.iload 4, 2) := by decide +kernel
theorem dX2_best_282 : decode cX2_best 282 = .ok (.isub, 1) := by decide +kernel
theorem dX2_best_283 : decode cX2_best 283 = .ok (.istore_n 3, 1) := by decide +kernel
theorem dX2_best_284 : decode cX2_best 284 = .ok (.iinc 5 1, 3) := by decide +kernel
theorem dX2_best_287 : decode cX2_best 287 = .ok (.goto (-85), 3) := by decide +kernel
theorem dX2_best_290 : decode cX2_best 290 = .ok (.iload 4, 2) := by decide +kernel
theorem dX2_best_292 : decode cX2_best 292 = .ok (.ireturn, 1) := by decide +kernel
set_option maxHeartbeats 4000000 in
theorem met_best (l : Launch) (D : va_G) (E : Nat → ClassId) (A : Nat → Prop) (h : Nat) (ad : Nat → Nat) (I : Nat → Int) (F : Nat → Int → Int) (mi k : Int) (r_m : R32 mi) (r_k : R32 k) (gw0 : gWay I F) : MM l yX2_best cX2_best 8 (some .int) (mrm 1) D E A h ad [.int (iI mi), .int (iI k)] I F (MQi D E A h ad (fun z I1 F1 => bestS I F mi k = z ∧ I = I1 ∧ ∃ g, va_up F 74 g = F1)) := by
  refine m_start (by decide) rfl (Nat.le_of_ble_eq_true rfl) ?_
  intro p e R s m args below meth c ls Q hR hQ hC hml hr hlk hM hS hl
  have hx := hC.1
  have hb := hC.2.1
  have hown := hC.2.2.1
  have hts := hC.2.2.2.1
  have hl : lv_has ls 8 [(0, .ref h), (1, .int (iI mi)), (2, .int (iI k))] := hl
  obtain ⟨i41, i44, a42, a43⟩ := id gw0
  have hLb := Lw_bd gw0
  refine lv_iload_n hx hb dX2_best_0 rfl (lv_at hl 1 rfl) ?_
  refine r_iconst hx hb dX2_best_1 ?_
  refine r_iconst hx hb dX2_best_2 ?_
  refine lv_aload_n hx hb dX2_best_3 rfl (lv_at hl 0 rfl) ?_
  refine mg_41 (v := I 41) hC hM rfl dX2_best_4 ?_
  refine r_imul hx hb dX2_best_7 ?_
  refine s_calli (kX2_X2_in (rest := []) (as := [.int (iI mi), .int (iI 0), .int (iI (3 * (I 41)))]) hx hb hml hown hts (met_in l mi 0 (3 * (I 41)) r_m (by decide) (by omega)) ⟨rfl, rfl⟩ hR (by decide) rfl hl.1 rfl (Nat.le_of_ble_eq_true rfl) dX2_best_8) ?_
  refine r_ifeqB (tgt := 28) hx hb dX2_best_11 (by decide) (fun c1 => ?_) (fun c1 => ?_)
  · refine r_iconst hx hb dX2_best_28 ?_
    exact m_iret hC hQ hr hlk hM hS dX2_best_29 (⟨if_neg (by omega), rfl, ⟨F 74, up_self F 74⟩⟩)
  · refine lv_iload_n hx hb dX2_best_14 rfl (lv_at hl 2 rfl) ?_
    refine r_iconst hx hb dX2_best_15 ?_
    refine lv_aload_n hx hb dX2_best_16 rfl (lv_at hl 0 rfl) ?_
    refine mg_41 (v := I 41) hC hM rfl dX2_best_17 ?_
    refine r_iconst hx hb dX2_best_20 ?_
    refine r_isub hx hb dX2_best_21 ?_
    refine s_calli (kX2_X2_in (rest := []) (as := [.int (iI k), .int (iI (-1)), .int (iI ((I 41) - 1))]) hx hb hml hown hts (met_in l k (-1) ((I 41) - 1) r_k (by decide) (by omega)) ⟨rfl, rfl⟩ hR (by decide) rfl hl.1 rfl (Nat.le_of_ble_eq_true rfl) dX2_best_22) ?_
    refine r_ifneB (tgt := 30) hx hb dX2_best_25 (by decide) (fun c2 => ?_) (fun c2 => ?_)
    · have hin : (0 ≤ mi ∧ mi ≤ 3 * I 41) ∧ (-1 ≤ k ∧ k ≤ I 41 - 1) := by omega
      have hM : MW D E A h ad I (va_up F 74 (F 74)) s.heap := by rw [up_self]; exact hM
      refine r_iconst hx hb dX2_best_30 ?_
      refine lv_istore_n (lv' := [(3, .int (iI 0)), (0, .ref h), (1, .int (iI mi)), (2, .int (iI k))]) hx hb dX2_best_31 rfl hl (by decide) rfl (fun ls hl => ?_)
      have loop32_3 : ∀ (n : Nat) (mm : Int) (F1 : Nat → Int → Int), 37 - mm < (n : Int) → 0 ≤ mm → mm ≤ 37 → (∃ g, F1 = va_up F 74 g ∧ ∀ j, 0 ≤ j → j < mm → g (37 * I 41 + j) = Lw I F (I 41) j) → ∀ (H : Heap) (locs : List Loc) (ls : Array Slot), MW D E A h ad I F1 H → va_S A s.heap H locs → lv_has ls 8 [(3, .int (iI mm)), (0, .ref h), (1, .int (iI mi)), (2, .int (iI k))] → W p l e R s m args below meth c H locs 0 0 Q (F0 m 32 ls []) := by
        intro n
        induction n with
        | zero => intro mm F1 hn5 hm0 hm1 eF; exfalso; omega
        | succ n ih4 =>
          intro mm F1 hn5 hm0 hm1 eF H locs ls hM hS hl
          obtain ⟨g, rfl, hg⟩ := eF
          refine lv_iload_n hx hb dX2_best_32 rfl (lv_at hl 0 rfl) ?_
          refine r_bipush hx hb dX2_best_33 (by decide) ?_
          refine r_icmp_ge (tgt := 67) hx hb dX2_best_35 (by decide) (by omega) (by decide) (fun c6 => ?_) (fun c6 => ?_)
          · have hgA : ∀ j, 0 ≤ j → j < 37 → g (37 * I 41 + j) = Lw I F (I 41) j := fun j h0 h1 => hg j h0 (by omega)
            refine lv_aload_n hx hb dX2_best_67 rfl (lv_at hl 1 rfl) ?_
            refine mg_41 (v := I 41) hC hM rfl dX2_best_68 ?_
            refine r_iconst hx hb dX2_best_71 ?_
            refine r_isub hx hb dX2_best_72 ?_
            refine lv_istore_n (lv' := [(3, .int (iI ((I 41) - 1))), (0, .ref h), (1, .int (iI mi)), (2, .int (iI k))]) hx hb dX2_best_73 rfl hl (by decide) rfl (fun ls hl => ?_)
            have loop74_7 : ∀ (n : Nat) (ho : Int) (F1 : Nat → Int → Int), ho + 1 < (n : Int) → -1 ≤ ho → ho < I 41 → (∃ g, F1 = va_up F 74 g ∧ ∀ i, ho < i → i ≤ I 41 → ∀ j, 0 ≤ j → j < 37 → g (37 * i + j) = Lw I F i j) → ∀ (H : Heap) (locs : List Loc) (ls : Array Slot), MW D E A h ad I F1 H → va_S A s.heap H locs → lv_has ls 8 [(3, .int (iI ho)), (0, .ref h), (1, .int (iI mi)), (2, .int (iI k))] → W p l e R s m args below meth c H locs 0 0 Q (F0 m 74 ls []) := by
              intro n
              induction n with
              | zero => intro ho F1 hn9 hh0 hh1 eF; exfalso; omega
              | succ n ih8 =>
                intro ho F1 hn9 hh0 hh1 eF H locs ls hM hS hl
                obtain ⟨g, rfl, hg⟩ := eF
                refine lv_iload_n hx hb dX2_best_74 rfl (lv_at hl 0 rfl) ?_
                refine r_if_lt (tgt := 182) hx hb dX2_best_75 (by decide) (by omega) (fun c10 => ?_) (fun c10 => ?_)
                · have hg : ∀ i, 0 ≤ i → i ≤ I 41 → ∀ j, 0 ≤ j → j < 37 → g (37 * i + j) = Lw I F i j := fun i h0 h1 => hg i (by omega) h1
                  refine lv_iload_n hx hb dX2_best_182 rfl (lv_at hl 3 rfl) ?_
                  refine r_iconst hx hb dX2_best_183 ?_
                  refine r_icmp_ne (tgt := 194) hx hb dX2_best_184 (by decide) r_k (by decide) (fun ck => ?_) (fun ck => ?_)
                  · refine lv_iload_n hx hb dX2_best_194 rfl (lv_at hl 2 rfl) ?_
                    refine lv_istore_n (lv' := [(3, .int (iI mi)), (0, .ref h), (1, .int (iI mi)), (2, .int (iI k))]) hx hb dX2_best_195 rfl hl (by decide) rfl (fun ls hl => ?_)
                    refine r_iconst hx hb dX2_best_196 ?_
                    refine lv_istore (lv' := [(4, .int (iI 0)), (3, .int (iI mi)), (0, .ref h), (1, .int (iI mi)), (2, .int (iI k))]) hx hb dX2_best_197 hl (by decide) rfl (fun ls hl => ?_)
                    refine r_iconst hx hb dX2_best_199 ?_
                    refine lv_istore (lv' := [(5, .int (iI 0)), (4, .int (iI 0)), (3, .int (iI mi)), (0, .ref h), (1, .int (iI mi)), (2, .int (iI k))]) hx hb dX2_best_200 hl (by decide) rfl (fun ls hl => ?_)
                    have loop202_11 : ∀ (n : Nat) (mm vv hh : Int), k + 1 - hh < (n : Int) → 0 ≤ hh → hh ≤ k + 1 → 0 ≤ mm → mm ≤ mi → mm = wayM (pickS (Lw I F) (qwS I F)) mi hh.toNat → (1 ≤ hh → vv = (pickS (Lw I F) (qwS I F)) (hh - 1) (wayM (pickS (Lw I F) (qwS I F)) mi (hh - 1).toNat)) → ∀ (H : Heap) (locs : List Loc) (ls : Array Slot), MW D E A h ad I (va_up F 74 g) H → va_S A s.heap H locs → lv_has ls 8 [(5, .int (iI hh)), (4, .int (iI vv)), (3, .int (iI mm)), (0, .ref h), (1, .int (iI mi)), (2, .int (iI k))] → W p l e R s m args below meth c H locs 0 0 Q (F0 m 202 ls []) := by
                      intro n
                      induction n with
                      | zero => intro mm vv hh hn13 hh0 hh1 hm0 hm1 em hvv; exfalso; omega
                      | succ n ih12 =>
                        intro mm vv hh hn13 hh0 hh1 hm0 hm1 em hvv H locs ls hM hS hl
                        refine lv_iload hx hb dX2_best_202 (lv_at hl 0 rfl) ?_
                        refine lv_iload_n hx hb dX2_best_204 rfl (lv_at hl 5 rfl) ?_
                        refine r_icmp_gt (tgt := 290) hx hb dX2_best_205 (by decide) (by omega) r_k (fun c14 => ?_) (fun c14 => ?_)
                        · refine lv_iload hx hb dX2_best_290 (lv_at hl 1 rfl) ?_
                          exact m_iret hC hQ hr hlk hM hS dX2_best_292 (⟨by unfold bestS; rw [if_pos hin, if_neg ck, hvv (by omega), show hh - 1 = k by omega], rfl, ⟨_, rfl⟩⟩)
                        · refine r_iconst hx hb dX2_best_208 ?_
                          refine lv_istore (lv' := [(4, .int (iI 0)), (5, .int (iI hh)), (3, .int (iI mm)), (0, .ref h), (1, .int (iI mi)), (2, .int (iI k))]) hx hb dX2_best_209 hl (by decide) rfl (fun ls hl => ?_)
                          have loop211_15 : ∀ (n : Nat) (u : Int), 3 - u < (n : Int) → 0 ≤ u → u ≤ 3 → (∀ y, 0 ≤ y → y < u → ¬ cdB (Lw I F) (qwS I F) hh mm y) → ∀ (H : Heap) (locs : List Loc) (ls : Array Slot), MW D E A h ad I (va_up F 74 g) H → va_S A s.heap H locs → lv_has ls 8 [(4, .int (iI u)), (5, .int (iI hh)), (3, .int (iI mm)), (0, .ref h), (1, .int (iI mi)), (2, .int (iI k))] → W p l e R s m args below meth c H locs 0 0 Q (F0 m 211 ls []) := by
                            intro n
                            induction n with
                            | zero => intro u hn17 hu0 hu1 hnu; exfalso; omega
                            | succ n ih16 =>
                              intro u hn17 hu0 hu1 hnu H locs ls hM hS hl
                              refine lv_iload hx hb dX2_best_211 (lv_at hl 0 rfl) ?_
                              refine r_iconst hx hb dX2_best_213 ?_
                              refine r_icmp_ge (tgt := 269) hx hb dX2_best_214 (by decide) (by omega) (by decide) (fun c18 => ?_) (fun c18 => ?_)
                              · have epk : (pickS (Lw I F) (qwS I F)) hh mm = u := pickS_eq (by omega) hnu (Or.inl (by omega))
                                refine lv_iload_n hx hb dX2_best_269 rfl (lv_at hl 2 rfl) ?_
                                refine lv_iload hx hb dX2_best_270 (lv_at hl 0 rfl) ?_
                                have jn19 : W p l e R s m args below meth c H locs 0 0 Q (F0 m 283 ls [.int (iI (if mm < u then 0 else mm - u))]) := by
                                  refine lv_istore_n (lv' := [(3, .int (iI (if mm < u then 0 else mm - u))), (4, .int (iI u)), (5, .int (iI hh)), (0, .ref h), (1, .int (iI mi)), (2, .int (iI k))]) hx hb dX2_best_283 rfl hl (by decide) rfl (fun ls hl => ?_)
                                  refine lv_iinc (v := iI (hh + 1)) (lv' := [(5, .int (iI (hh + 1))), (3, .int (iI (if mm < u then 0 else mm - u))), (4, .int (iI u)), (0, .ref h), (1, .int (iI mi)), (2, .int (iI k))]) hx hb dX2_best_284 hl (k := 2) rfl (iI_add _ _) (by decide) rfl (fun ls hl => ?_)
                                  refine lv_goto (tgt := 202) hx hb dX2_best_287 (by decide) ?_
                                  exact ih12 (if mm < u then 0 else mm - u) u (hh + 1) (by omega) (by omega) (by omega) (by split <;> omega) (by split <;> omega) (by rw [wayM_s _ _ hh0, ← em, epk]) (fun q => by rw [show hh + 1 - 1 = hh by omega, ← em, epk]) _ _ _ hM hS (lv_sub hl [0, 2, 1, 3, 4, 5] rfl)
                                refine r_icmp_ge (tgt := 279) hx hb dX2_best_272 (by decide) (by omega) (by omega) (fun c20 => ?_) (fun c20 => ?_)
                                · refine lv_iload_n hx hb dX2_best_279 rfl (lv_at hl 2 rfl) ?_
                                  refine lv_iload hx hb dX2_best_280 (lv_at hl 0 rfl) ?_
                                  refine r_isub hx hb dX2_best_282 ?_
                                  rw [if_neg (by omega)] at jn19
                                  exact jn19
                                · refine r_iconst hx hb dX2_best_275 ?_
                                  refine lv_goto (tgt := 283) hx hb dX2_best_276 (by decide) ?_
                                  rw [if_pos (by omega)] at jn19
                                  exact jn19
                              · refine lv_aload_n hx hb dX2_best_217 rfl (lv_at hl 3 rfl) ?_
                                refine lv_iload hx hb dX2_best_218 (lv_at hl 1 rfl) ?_
                                refine lv_iload_n hx hb dX2_best_220 rfl (lv_at hl 2 rfl) ?_
                                refine lv_iload hx hb dX2_best_221 (lv_at hl 0 rfl) ?_
                                refine m_calli (kX2_restBy (rest := []) (as := [.int (iI hh), .int (iI mm), .int (iI u)]) hC hml (met_restBy l D E A h ad I (va_up F 74 g) hh mm u (by omega) (by omega) (by omega)) ⟨rfl, rfl⟩ hR (by decide) hM rfl hl.1 rfl (Nat.le_of_ble_eq_true rfl) dX2_best_223) hS (fun z21 I22 F23 H locs hp24 hM hS => ?_)
                                obtain ⟨rfl, rfl, rfl⟩ := hp24
                                refine W.eq (g2 := F0 m 226 ls [.int (iI (g (37 * (hh + 1) + (if mm < u then 0 else mm - u))))]) rfl ?_
                                have hgr := hg (hh + 1) (by omega) (by omega) (if mm < u then 0 else mm - u) (by split <;> omega) (by split <;> omega)
                                have b_re := hLb (hh + 1) (if mm < u then 0 else mm - u) (by omega)
                                have hgm := hg hh (by omega) (by omega) mm (by omega) (by omega)
                                have b_lm := hLb hh mm (by omega)
                                have b_qu := queasyS_bd (per := F 43) (hei := F 42) (own := I 44) (h := hh) u (a42 _ (by omega) (by omega))
                                rw [← hgr] at b_re
                                rw [← hgm] at b_lm
                                refine r_iconst hx hb dX2_best_226 ?_
                                refine r_icmp_eq (tgt := 263) hx hb dX2_best_227 (by decide) (by omega) (by decide) (fun cr => ?_) (fun cr => ?_)
                                · refine lv_iinc (v := iI (u + 1)) (lv' := [(4, .int (iI (u + 1))), (5, .int (iI hh)), (3, .int (iI mm)), (0, .ref h), (1, .int (iI mi)), (2, .int (iI k))]) hx hb dX2_best_263 hl (k := 0) rfl (iI_add _ _) (by decide) rfl (fun ls hl => ?_)
                                  refine lv_goto (tgt := 211) hx hb dX2_best_266 (by decide) ?_
                                  exact ih16 (u + 1) (by omega) (by omega) (by omega) (fun y y0 y1 => by by_cases hy : y = u; subst hy; intro q; exact q.1 (by rw [← hgr]; exact cr); exact hnu y y0 (by omega)) _ _ _ hM hS (lv_sub hl [0, 1, 2, 3, 4, 5] rfl)
                                · refine lv_aload_n hx hb dX2_best_230 rfl (lv_at hl 3 rfl) ?_
                                  refine lv_iload hx hb dX2_best_231 (lv_at hl 1 rfl) ?_
                                  refine lv_iload_n hx hb dX2_best_233 rfl (lv_at hl 2 rfl) ?_
                                  refine lv_iload hx hb dX2_best_234 (lv_at hl 0 rfl) ?_
                                  refine m_calli (kX2_restBy (rest := []) (as := [.int (iI hh), .int (iI mm), .int (iI u)]) hC hml (met_restBy l D E A h ad I (va_up F 74 g) hh mm u (by omega) (by omega) (by omega)) ⟨rfl, rfl⟩ hR (by decide) hM rfl hl.1 rfl (Nat.le_of_ble_eq_true rfl) dX2_best_236) hS (fun z25 I26 F27 H locs hp28 hM hS => ?_)
                                  obtain ⟨rfl, rfl, rfl⟩ := hp28
                                  refine W.eq (g2 := F0 m 239 ls [.int (iI (g (37 * (hh + 1) + (if mm < u then 0 else mm - u))))]) rfl ?_
                                  refine lv_aload_n hx hb dX2_best_239 rfl (lv_at hl 3 rfl) ?_
                                  refine lv_iload hx hb dX2_best_240 (lv_at hl 1 rfl) ?_
                                  refine lv_iload hx hb dX2_best_242 (lv_at hl 0 rfl) ?_
                                  refine m_calli (kX2_queasy (rest := [.int (iI (g (37 * (hh + 1) + (if mm < u then 0 else mm - u))))]) (as := [.int (iI hh), .int (iI u)]) hC hml (met_queasy l D E A h ad I (va_up F 74 g) hh u (by omega) (by omega) gw0) ⟨rfl, rfl⟩ hR (by decide) hM rfl hl.1 rfl (Nat.le_of_ble_eq_true rfl) dX2_best_244) hS (fun z29 I30 F31 H locs hp32 hM hS => ?_)
                                  obtain ⟨rfl, rfl, rfl⟩ := hp32
                                  refine W.eq (g2 := F0 m 247 ls [.int (iI (queasyS (F 43) (F 42) (I 44) hh u)), .int (iI (g (37 * (hh + 1) + (if mm < u then 0 else mm - u))))]) rfl ?_
                                  refine r_iadd hx hb dX2_best_247 ?_
                                  refine lv_aload_n hx hb dX2_best_248 rfl (lv_at hl 3 rfl) ?_
                                  refine mg_74 hC hM dX2_best_249 ?_
                                  refine r_bipush hx hb dX2_best_252 (by decide) ?_
                                  refine lv_iload hx hb dX2_best_254 (lv_at hl 1 rfl) ?_
                                  refine r_imul hx hb dX2_best_256 ?_
                                  refine lv_iload_n hx hb dX2_best_257 rfl (lv_at hl 2 rfl) ?_
                                  refine r_iadd hx hb dX2_best_258 ?_
                                  refine ml_74 (v := g ((37 * hh) + mm)) hC hM (by omega) rfl dX2_best_259 ?_
                                  refine r_icmp_eq (tgt := 269) hx hb dX2_best_260 (by decide) (by omega) (by omega) (fun cq => ?_) (fun cq => ?_)
                                  · have epk : (pickS (Lw I F) (qwS I F)) hh mm = u := pickS_eq (by omega) hnu (Or.inr ⟨by rw [← hgr]; exact cr, by rw [← hgr, ← hgm]; exact cq⟩)
                                    refine lv_iload_n hx hb dX2_best_269 rfl (lv_at hl 2 rfl) ?_
                                    refine lv_iload hx hb dX2_best_270 (lv_at hl 0 rfl) ?_
                                    have jn33 : W p l e R s m args below meth c H locs 0 0 Q (F0 m 283 ls [.int (iI (if mm < u then 0 else mm - u))]) := by
                                      refine lv_istore_n (lv' := [(3, .int (iI (if mm < u then 0 else mm - u))), (4, .int (iI u)), (5, .int (iI hh)), (0, .ref h), (1, .int (iI mi)), (2, .int (iI k))]) hx hb dX2_best_283 rfl hl (by decide) rfl (fun ls hl => ?_)
                                      refine lv_iinc (v := iI (hh + 1)) (lv' := [(5, .int (iI (hh + 1))), (3, .int (iI (if mm < u then 0 else mm - u))), (4, .int (iI u)), (0, .ref h), (1, .int (iI mi)), (2, .int (iI k))]) hx hb dX2_best_284 hl (k := 2) rfl (iI_add _ _) (by decide) rfl (fun ls hl => ?_)
                                      refine lv_goto (tgt := 202) hx hb dX2_best_287 (by decide) ?_
                                      exact ih12 (if mm < u then 0 else mm - u) u (hh + 1) (by omega) (by omega) (by omega) (by split <;> omega) (by split <;> omega) (by rw [wayM_s _ _ hh0, ← em, epk]) (fun q => by rw [show hh + 1 - 1 = hh by omega, ← em, epk]) _ _ _ hM hS (lv_sub hl [0, 2, 1, 3, 4, 5] rfl)
                                    refine r_icmp_ge (tgt := 279) hx hb dX2_best_272 (by decide) (by omega) (by omega) (fun c34 => ?_) (fun c34 => ?_)
                                    · refine lv_iload_n hx hb dX2_best_279 rfl (lv_at hl 2 rfl) ?_
                                      refine lv_iload hx hb dX2_best_280 (lv_at hl 0 rfl) ?_
                                      refine r_isub hx hb dX2_best_282 ?_
                                      rw [if_neg (by omega)] at jn33
                                      exact jn33
                                    · refine r_iconst hx hb dX2_best_275 ?_
                                      refine lv_goto (tgt := 283) hx hb dX2_best_276 (by decide) ?_
                                      rw [if_pos (by omega)] at jn33
                                      exact jn33
                                  · refine lv_iinc (v := iI (u + 1)) (lv' := [(4, .int (iI (u + 1))), (5, .int (iI hh)), (3, .int (iI mm)), (0, .ref h), (1, .int (iI mi)), (2, .int (iI k))]) hx hb dX2_best_263 hl (k := 0) rfl (iI_add _ _) (by decide) rfl (fun ls hl => ?_)
                                    refine lv_goto (tgt := 211) hx hb dX2_best_266 (by decide) ?_
                                    exact ih16 (u + 1) (by omega) (by omega) (by omega) (fun y y0 y1 => by by_cases hy : y = u; subst hy; intro q; exact cq (by rw [hgr, hgm]; exact q.2); exact hnu y y0 (by omega)) _ _ _ hM hS (lv_sub hl [0, 1, 2, 3, 4, 5] rfl)
                          exact loop211_15 ((3 - 0 : Int).toNat + 1) 0 (by omega) (by omega) (by omega) (fun y y0 y1 => by omega) _ _ _ hM hS (lv_sub hl [0, 1, 2, 3, 4, 5] rfl)
                    exact loop202_11 ((k + 1 - 0 : Int).toNat + 1) mi 0 0 (by omega) (by omega) (by omega) (by omega) (by omega) rfl (fun q => by omega) _ _ _ hM hS (lv_sub hl [0, 1, 2, 3, 4, 5] rfl)
                  · refine lv_aload_n hx hb dX2_best_187 rfl (lv_at hl 1 rfl) ?_
                    refine mg_74 hC hM dX2_best_188 ?_
                    refine lv_iload_n hx hb dX2_best_191 rfl (lv_at hl 2 rfl) ?_
                    refine ml_74 (v := g mi) hC hM (by omega) rfl dX2_best_192 ?_
                    exact m_iret hC hQ hr hlk hM hS dX2_best_193 (⟨by unfold bestS; rw [if_pos hin, if_pos ck]; have q := hg 0 (by omega) (by omega) mi (by omega) (by omega); rw [show 37 * 0 + mi = mi by omega] at q; exact q.symm, rfl, ⟨_, rfl⟩⟩)
                · refine r_iconst hx hb dX2_best_78 ?_
                  refine lv_istore (lv' := [(4, .int (iI 0)), (3, .int (iI ho)), (0, .ref h), (1, .int (iI mi)), (2, .int (iI k))]) hx hb dX2_best_79 hl (by decide) rfl (fun ls hl => ?_)
                  have loop81_35 : ∀ (n : Nat) (mm : Int) (F1 : Nat → Int → Int), 37 - mm < (n : Int) → 0 ≤ mm → mm ≤ 37 → (∃ g, F1 = va_up F 74 g ∧ (∀ i, ho < i → i ≤ I 41 → ∀ j, 0 ≤ j → j < 37 → g (37 * i + j) = Lw I F i j) ∧ ∀ j, 0 ≤ j → j < mm → g (37 * ho + j) = Lw I F ho j) → ∀ (H : Heap) (locs : List Loc) (ls : Array Slot), MW D E A h ad I F1 H → va_S A s.heap H locs → lv_has ls 8 [(4, .int (iI mm)), (3, .int (iI ho)), (0, .ref h), (1, .int (iI mi)), (2, .int (iI k))] → W p l e R s m args below meth c H locs 0 0 Q (F0 m 81 ls []) := by
                    intro n
                    induction n with
                    | zero => intro mm F1 hn37 hm0 hm1 eF; exfalso; omega
                    | succ n ih36 =>
                      intro mm F1 hn37 hm0 hm1 eF H locs ls hM hS hl
                      obtain ⟨g, rfl, hg, hgC⟩ := eF
                      refine lv_iload hx hb dX2_best_81 (lv_at hl 0 rfl) ?_
                      refine r_bipush hx hb dX2_best_83 (by decide) ?_
                      refine r_icmp_ge (tgt := 176) hx hb dX2_best_85 (by decide) (by omega) (by decide) (fun c38 => ?_) (fun c38 => ?_)
                      · refine lv_iinc (v := iI (ho + (-1))) (lv' := [(3, .int (iI (ho + (-1)))), (4, .int (iI mm)), (0, .ref h), (1, .int (iI mi)), (2, .int (iI k))]) hx hb dX2_best_176 hl (k := 1) rfl (iI_add _ _) (by decide) rfl (fun ls hl => ?_)
                        refine lv_goto (tgt := 74) hx hb dX2_best_179 (by decide) ?_
                        exact ih8 (ho + (-1)) (va_up F 74 g) (by omega) (by omega) (by omega) (⟨_, rfl, fun i h0 h1 j j0 j1 => by by_cases hi : i = ho; subst hi; exact hgC j j0 (by omega); exact hg i (by omega) h1 j j0 j1⟩) _ _ _ hM hS (lv_sub hl [0, 2, 3, 4] rfl)
                      · refine r_iconst hx hb dX2_best_88 ?_
                        refine lv_istore (lv' := [(5, .int (iI (-1))), (4, .int (iI mm)), (3, .int (iI ho)), (0, .ref h), (1, .int (iI mi)), (2, .int (iI k))]) hx hb dX2_best_89 hl (by decide) rfl (fun ls hl => ?_)
                        refine r_iconst hx hb dX2_best_91 ?_
                        refine lv_istore (lv' := [(6, .int (iI 0)), (5, .int (iI (-1))), (4, .int (iI mm)), (3, .int (iI ho)), (0, .ref h), (1, .int (iI mi)), (2, .int (iI k))]) hx hb dX2_best_92 hl (by decide) rfl (fun ls hl => ?_)
                        have hfb : ∀ n : Nat, -1 ≤ foldB (fun v => Lw I F (ho + 1) (if mm < v then 0 else mm - v)) (queasyS (F 43) (F 42) (I 44) ho) n ∧ foldB (fun v => Lw I F (ho + 1) (if mm < v then 0 else mm - v)) (queasyS (F 43) (F 42) (I 44) ho) n ≤ 46080 + 3840 := fun n => foldB_bd (by decide) (fun v => hLb _ _ (by omega)) (fun v => queasyS_bd v (a42 _ (by omega) (by omega))) n
                        have loop94_39 : ∀ (n : Nat) (x v : Int), 4 - v < (n : Int) → x = foldB (fun v => Lw I F (ho + 1) (if mm < v then 0 else mm - v)) (queasyS (F 43) (F 42) (I 44) ho) v.toNat → 0 ≤ v → v ≤ 4 → ∀ (H : Heap) (locs : List Loc) (ls : Array Slot), MW D E A h ad I (va_up F 74 g) H → va_S A s.heap H locs → lv_has ls 8 [(6, .int (iI v)), (5, .int (iI x)), (4, .int (iI mm)), (3, .int (iI ho)), (0, .ref h), (1, .int (iI mi)), (2, .int (iI k))] → W p l e R s m args below meth c H locs 0 0 Q (F0 m 94 ls []) := by
                          intro n
                          induction n with
                          | zero => intro x v hn41 ex hv0 hv1; exfalso; omega
                          | succ n ih40 =>
                            intro x v hn41 ex hv0 hv1 H locs ls hM hS hl
                            have hxb := hfb v.toNat
                            rw [← ex] at hxb
                            refine lv_iload hx hb dX2_best_94 (lv_at hl 0 rfl) ?_
                            refine r_iconst hx hb dX2_best_96 ?_
                            refine r_icmp_ge (tgt := 156) hx hb dX2_best_97 (by decide) (by omega) (by decide) (fun c42 => ?_) (fun c42 => ?_)
                            · have ev : x = Lw I F ho mm := by rw [ex, show v = 4 by omega, Lw_s I F mm (by omega)]; rfl
                              refine lv_aload_n hx hb dX2_best_156 rfl (lv_at hl 4 rfl) ?_
                              refine mg_74 hC hM dX2_best_157 ?_
                              refine r_bipush hx hb dX2_best_160 (by decide) ?_
                              refine lv_iload_n hx hb dX2_best_162 rfl (lv_at hl 3 rfl) ?_
                              refine r_imul hx hb dX2_best_163 ?_
                              refine lv_iload hx hb dX2_best_164 (lv_at hl 2 rfl) ?_
                              refine r_iadd hx hb dX2_best_166 ?_
                              refine lv_iload hx hb dX2_best_167 (lv_at hl 1 rfl) ?_
                              refine ms_74 (v := x) hC hM hS (by omega) dX2_best_169 (fun H locs hM hS => ?_)
                              rw [upF_up] at hM
                              refine lv_iinc (v := iI (mm + 1)) (lv' := [(4, .int (iI (mm + 1))), (6, .int (iI v)), (5, .int (iI x)), (3, .int (iI ho)), (0, .ref h), (1, .int (iI mi)), (2, .int (iI k))]) hx hb dX2_best_170 hl (k := 2) rfl (iI_add _ _) (by decide) rfl (fun ls hl => ?_)
                              refine lv_goto (tgt := 81) hx hb dX2_best_173 (by decide) ?_
                              exact ih36 (mm + 1) (va_up F 74 (updZ g ((37 * ho) + mm) x)) (by omega) (by omega) (by omega) (⟨_, rfl, fun i h0 h1 j j0 j1 => by rw [updZ_n (by omega)]; exact hg i h0 h1 j j0 j1, fun j j0 j1 => by by_cases hj : j = mm; subst hj; rw [updZ_s, ev]; rw [updZ_n (by omega)]; exact hgC j j0 (by omega)⟩) _ _ _ hM hS (lv_sub hl [0, 3, 4, 5, 6] rfl)
                            · refine lv_aload_n hx hb dX2_best_100 rfl (lv_at hl 4 rfl) ?_
                              refine lv_iload_n hx hb dX2_best_101 rfl (lv_at hl 3 rfl) ?_
                              refine lv_iload hx hb dX2_best_102 (lv_at hl 2 rfl) ?_
                              refine lv_iload hx hb dX2_best_104 (lv_at hl 0 rfl) ?_
                              refine m_calli (kX2_restBy (rest := []) (as := [.int (iI ho), .int (iI mm), .int (iI v)]) hC hml (met_restBy l D E A h ad I (va_up F 74 g) ho mm v (by omega) (by omega) (by omega)) ⟨rfl, rfl⟩ hR (by decide) hM rfl hl.1 rfl (Nat.le_of_ble_eq_true rfl) dX2_best_106) hS (fun z43 I44 F45 H locs hp46 hM hS => ?_)
                              obtain ⟨rfl, rfl, rfl⟩ := hp46
                              refine W.eq (g2 := F0 m 109 ls [.int (iI (g (37 * (ho + 1) + (if mm < v then 0 else mm - v))))]) rfl ?_
                              obtain ⟨re, h_re⟩ : ∃ x : Int, x = g (37 * (ho + 1) + (if mm < v then 0 else mm - v)) := ⟨_, rfl⟩
                              refine W.eq (g2 := F0 m 109 ls [.int (iI re)]) (by subst h_re; rfl) ?_
                              have e_re : re = Lw I F (ho + 1) (if mm < v then 0 else mm - v) := by rw [h_re]; exact hg (ho + 1) (by omega) (by omega) _ (by split <;> omega) (by split <;> omega)
                              have b_re := hLb (ho + 1) (if mm < v then 0 else mm - v) (by omega)
                              rw [← e_re] at b_re
                              have b_qu := queasyS_bd (per := F 43) (hei := F 42) (own := I 44) (h := ho) v (a42 _ (by omega) (by omega))
                              refine lv_istore (lv' := [(7, .int (iI re)), (6, .int (iI v)), (5, .int (iI x)), (4, .int (iI mm)), (3, .int (iI ho)), (0, .ref h), (1, .int (iI mi)), (2, .int (iI k))]) hx hb dX2_best_109 hl (by decide) rfl (fun ls hl => ?_)
                              refine lv_iload hx hb dX2_best_111 (lv_at hl 0 rfl) ?_
                              refine r_iconst hx hb dX2_best_113 ?_
                              refine r_icmp_eq (tgt := 150) hx hb dX2_best_114 (by decide) (by omega) (by decide) (fun c47 => ?_) (fun c47 => ?_)
                              · refine lv_iinc (v := iI (v + 1)) (lv' := [(6, .int (iI (v + 1))), (7, .int (iI re)), (5, .int (iI x)), (4, .int (iI mm)), (3, .int (iI ho)), (0, .ref h), (1, .int (iI mi)), (2, .int (iI k))]) hx hb dX2_best_150 hl (k := 1) rfl (iI_add _ _) (by decide) rfl (fun ls hl => ?_)
                                refine lv_goto (tgt := 94) hx hb dX2_best_153 (by decide) ?_
                                exact ih40 x (v + 1) (by omega) (by rw [foldB_s _ _ hv0, ← ex, ← e_re]; unfold stpB; rw [if_neg (by omega)]) (by omega) (by omega) _ _ _ hM hS (lv_sub hl [0, 2, 3, 4, 5, 6, 7] rfl)
                              · refine lv_iload hx hb dX2_best_117 (lv_at hl 2 rfl) ?_
                                refine r_iconst hx hb dX2_best_119 ?_
                                refine r_icmp_eq (tgt := 138) hx hb dX2_best_120 (by decide) (by omega) (by decide) (fun c48 => ?_) (fun c48 => ?_)
                                · refine lv_iload hx hb dX2_best_138 (lv_at hl 0 rfl) ?_
                                  refine lv_aload_n hx hb dX2_best_140 rfl (lv_at hl 5 rfl) ?_
                                  refine lv_iload_n hx hb dX2_best_141 rfl (lv_at hl 4 rfl) ?_
                                  refine lv_iload hx hb dX2_best_142 (lv_at hl 1 rfl) ?_
                                  refine m_calli (kX2_queasy (rest := [.int (iI re)]) (as := [.int (iI ho), .int (iI v)]) hC hml (met_queasy l D E A h ad I (va_up F 74 g) ho v (by omega) (by omega) gw0) ⟨rfl, rfl⟩ hR (by decide) hM rfl hl.1 rfl (Nat.le_of_ble_eq_true rfl) dX2_best_144) hS (fun z49 I50 F51 H locs hp52 hM hS => ?_)
                                  obtain ⟨rfl, rfl, rfl⟩ := hp52
                                  refine W.eq (g2 := F0 m 147 ls [.int (iI (queasyS (F 43) (F 42) (I 44) ho v)), .int (iI re)]) rfl ?_
                                  refine r_iadd hx hb dX2_best_147 ?_
                                  refine lv_istore (lv' := [(5, .int (iI (re + (queasyS (F 43) (F 42) (I 44) ho v)))), (7, .int (iI re)), (6, .int (iI v)), (4, .int (iI mm)), (3, .int (iI ho)), (0, .ref h), (1, .int (iI mi)), (2, .int (iI k))]) hx hb dX2_best_148 hl (by decide) rfl (fun ls hl => ?_)
                                  refine lv_iinc (v := iI (v + 1)) (lv' := [(6, .int (iI (v + 1))), (5, .int (iI (re + (queasyS (F 43) (F 42) (I 44) ho v)))), (7, .int (iI re)), (4, .int (iI mm)), (3, .int (iI ho)), (0, .ref h), (1, .int (iI mi)), (2, .int (iI k))]) hx hb dX2_best_150 hl (k := 2) rfl (iI_add _ _) (by decide) rfl (fun ls hl => ?_)
                                  refine lv_goto (tgt := 94) hx hb dX2_best_153 (by decide) ?_
                                  exact ih40 (re + (queasyS (F 43) (F 42) (I 44) ho v)) (v + 1) (by omega) (by rw [foldB_s _ _ hv0, ← ex, ← e_re]; unfold stpB; rw [if_pos (by omega)]) (by omega) (by omega) _ _ _ hM hS (lv_sub hl [0, 1, 3, 4, 5, 6, 7] rfl)
                                · refine lv_iload hx hb dX2_best_123 (lv_at hl 0 rfl) ?_
                                  refine lv_aload_n hx hb dX2_best_125 rfl (lv_at hl 5 rfl) ?_
                                  refine lv_iload_n hx hb dX2_best_126 rfl (lv_at hl 4 rfl) ?_
                                  refine lv_iload hx hb dX2_best_127 (lv_at hl 1 rfl) ?_
                                  refine m_calli (kX2_queasy (rest := [.int (iI re)]) (as := [.int (iI ho), .int (iI v)]) hC hml (met_queasy l D E A h ad I (va_up F 74 g) ho v (by omega) (by omega) gw0) ⟨rfl, rfl⟩ hR (by decide) hM rfl hl.1 rfl (Nat.le_of_ble_eq_true rfl) dX2_best_129) hS (fun z53 I54 F55 H locs hp56 hM hS => ?_)
                                  obtain ⟨rfl, rfl, rfl⟩ := hp56
                                  refine W.eq (g2 := F0 m 132 ls [.int (iI (queasyS (F 43) (F 42) (I 44) ho v)), .int (iI re)]) rfl ?_
                                  refine r_iadd hx hb dX2_best_132 ?_
                                  refine lv_iload hx hb dX2_best_133 (lv_at hl 2 rfl) ?_
                                  refine r_icmp_ge (tgt := 150) hx hb dX2_best_135 (by decide) (by omega) (by omega) (fun c57 => ?_) (fun c57 => ?_)
                                  · refine lv_iinc (v := iI (v + 1)) (lv' := [(6, .int (iI (v + 1))), (7, .int (iI re)), (5, .int (iI x)), (4, .int (iI mm)), (3, .int (iI ho)), (0, .ref h), (1, .int (iI mi)), (2, .int (iI k))]) hx hb dX2_best_150 hl (k := 1) rfl (iI_add _ _) (by decide) rfl (fun ls hl => ?_)
                                    refine lv_goto (tgt := 94) hx hb dX2_best_153 (by decide) ?_
                                    exact ih40 x (v + 1) (by omega) (by rw [foldB_s _ _ hv0, ← ex, ← e_re]; unfold stpB; rw [if_neg (by omega)]) (by omega) (by omega) _ _ _ hM hS (lv_sub hl [0, 2, 3, 4, 5, 6, 7] rfl)
                                  · refine lv_iload hx hb dX2_best_138 (lv_at hl 0 rfl) ?_
                                    refine lv_aload_n hx hb dX2_best_140 rfl (lv_at hl 5 rfl) ?_
                                    refine lv_iload_n hx hb dX2_best_141 rfl (lv_at hl 4 rfl) ?_
                                    refine lv_iload hx hb dX2_best_142 (lv_at hl 1 rfl) ?_
                                    refine m_calli (kX2_queasy (rest := [.int (iI re)]) (as := [.int (iI ho), .int (iI v)]) hC hml (met_queasy l D E A h ad I (va_up F 74 g) ho v (by omega) (by omega) gw0) ⟨rfl, rfl⟩ hR (by decide) hM rfl hl.1 rfl (Nat.le_of_ble_eq_true rfl) dX2_best_144) hS (fun z58 I59 F60 H locs hp61 hM hS => ?_)
                                    obtain ⟨rfl, rfl, rfl⟩ := hp61
                                    refine W.eq (g2 := F0 m 147 ls [.int (iI (queasyS (F 43) (F 42) (I 44) ho v)), .int (iI re)]) rfl ?_
                                    refine r_iadd hx hb dX2_best_147 ?_
                                    refine lv_istore (lv' := [(5, .int (iI (re + (queasyS (F 43) (F 42) (I 44) ho v)))), (7, .int (iI re)), (6, .int (iI v)), (4, .int (iI mm)), (3, .int (iI ho)), (0, .ref h), (1, .int (iI mi)), (2, .int (iI k))]) hx hb dX2_best_148 hl (by decide) rfl (fun ls hl => ?_)
                                    refine lv_iinc (v := iI (v + 1)) (lv' := [(6, .int (iI (v + 1))), (5, .int (iI (re + (queasyS (F 43) (F 42) (I 44) ho v)))), (7, .int (iI re)), (4, .int (iI mm)), (3, .int (iI ho)), (0, .ref h), (1, .int (iI mi)), (2, .int (iI k))]) hx hb dX2_best_150 hl (k := 2) rfl (iI_add _ _) (by decide) rfl (fun ls hl => ?_)
                                    refine lv_goto (tgt := 94) hx hb dX2_best_153 (by decide) ?_
                                    exact ih40 (re + (queasyS (F 43) (F 42) (I 44) ho v)) (v + 1) (by omega) (by rw [foldB_s _ _ hv0, ← ex, ← e_re]; unfold stpB; rw [if_pos (by omega)]) (by omega) (by omega) _ _ _ hM hS (lv_sub hl [0, 1, 3, 4, 5, 6, 7] rfl)
                        exact loop94_39 ((4 - 0 : Int).toNat + 1) (-1) 0 (by omega) rfl (by omega) (by omega) _ _ _ hM hS (lv_sub hl [0, 1, 2, 3, 4, 5, 6] rfl)
                  exact loop81_35 ((37 - 0 : Int).toNat + 1) 0 (va_up F 74 g) (by omega) (by omega) (by omega) (⟨_, rfl, hg, fun j j0 j1 => by omega⟩) _ _ _ hM hS (lv_sub hl [0, 1, 2, 3, 4] rfl)
            exact loop74_7 ((((I 41) - 1) + 1 : Int).toNat + 1) ((I 41) - 1) (va_up F 74 g) (by omega) (by omega) (by omega) (⟨g, rfl, fun i h0 h1 j j0 j1 => by rw [show i = I 41 by omega]; exact hgA j j0 j1⟩) _ _ _ hM hS (lv_sub hl [0, 1, 2, 3] rfl)
          · refine lv_aload_n hx hb dX2_best_38 rfl (lv_at hl 1 rfl) ?_
            refine mg_74 hC hM dX2_best_39 ?_
            refine r_bipush hx hb dX2_best_42 (by decide) ?_
            refine lv_aload_n hx hb dX2_best_44 rfl (lv_at hl 1 rfl) ?_
            refine mg_41 (v := I 41) hC hM rfl dX2_best_45 ?_
            refine r_imul hx hb dX2_best_48 ?_
            refine lv_iload_n hx hb dX2_best_49 rfl (lv_at hl 0 rfl) ?_
            refine r_iadd hx hb dX2_best_50 ?_
            refine lv_iload_n hx hb dX2_best_51 rfl (lv_at hl 0 rfl) ?_
            have jn62 : W p l e R s m args below meth c H locs 0 0 Q (F0 m 60 ls [.int (iI (if mm = 0 then 0 else -1)), .int (iI ((37 * (I 41)) + mm)), .ref (ad 74)]) := by
              refine ms_74 (v := if mm = 0 then 0 else -1) hC hM hS (by omega) dX2_best_60 (fun H locs hM hS => ?_)
              rw [upF_up] at hM
              refine lv_iinc (v := iI (mm + 1)) (lv' := [(3, .int (iI (mm + 1))), (0, .ref h), (1, .int (iI mi)), (2, .int (iI k))]) hx hb dX2_best_61 hl (k := 0) rfl (iI_add _ _) (by decide) rfl (fun ls hl => ?_)
              refine lv_goto (tgt := 32) hx hb dX2_best_64 (by decide) ?_
              exact ih4 (mm + 1) (va_up F 74 (updZ g ((37 * (I 41)) + mm) (if mm = 0 then 0 else -1))) (by omega) (by omega) (by omega) (⟨_, rfl, fun j j0 j1 => by by_cases hj : j = mm; subst hj; rw [updZ_s]; unfold Lw; rw [show (I 41 - I 41).toNat = 0 by omega]; rfl; rw [updZ_n (by omega)]; exact hg j j0 (by omega)⟩) _ _ _ hM hS (lv_sub hl [0, 1, 2, 3] rfl)
            refine r_if_ne (tgt := 59) hx hb dX2_best_52 (by decide) (by omega) (fun c63 => ?_) (fun c63 => ?_)
            · refine r_iconst hx hb dX2_best_59 ?_
              rw [if_neg (by omega)] at jn62
              exact jn62
            · refine r_iconst hx hb dX2_best_55 ?_
              refine lv_goto (tgt := 60) hx hb dX2_best_56 (by decide) ?_
              rw [if_pos (by omega)] at jn62
              exact jn62
      exact loop32_3 ((37 - 0 : Int).toNat + 1) 0 (va_up F 74 (F 74)) (by omega) (by omega) (by omega) (⟨F 74, rfl, fun j j0 j1 => by omega⟩) _ _ _ hM hS (lv_sub hl [0, 1, 2, 3] rfl)
    · refine r_iconst hx hb dX2_best_28 ?_
      exact m_iret hC hQ hr hlk hM hS dX2_best_29 (⟨if_neg (by omega), rfl, ⟨F 74, up_self F 74⟩⟩)
