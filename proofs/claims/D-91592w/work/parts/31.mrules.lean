/-! THE MODEL: texts read -/
set_option maxRecDepth 100000

theorem goodX_c {x : Int → Int} {n : Int} {N : Nat} {p s : Int} {stk : List Int} {d : Int} {out : List (Int × Int)} {cl : Int} {bg cs : Int → Int} (h : goodX x n (N + 1) p (s :: stk) d out cl bg cs) : okS n p stk d out cl bg ∧ (0 ≤ s ∧ s ≤ 2000) ∧ match stepS x n s p stk d out cl bg cs with
    | none => True
    | some q => goodX x n N q.1 q.2.1 q.2.2.1 q.2.2.2.1 q.2.2.2.2.1 q.2.2.2.2.2.1 q.2.2.2.2.2.2 := h
theorem exec_c (x : Int → Int) (n : Int) (N : Nat) (p s : Int) (stk : List Int) (d : Int) (out : List (Int × Int)) (cl : Int) (bg cs : Int → Int) : exec x n (N + 1) p (s :: stk) d out cl bg cs = match stepS x n s p stk d out cl bg cs with
    | none => some (false, (p, stk, d, out, cl, bg, cs))
    | some q => exec x n N q.1 q.2.1 q.2.2.1 q.2.2.2.1 q.2.2.2.2.1 q.2.2.2.2.2.1 q.2.2.2.2.2.2 := rfl
theorem RepS_pop {I0 : Nat → Int} {F0 : Nat → Int → Int} {p s : Int} {stk : List Int} {d : Int} {out : List (Int × Int)} {cl : Int} : va_up (mI I0 (F0 47) p ((stk.length : Int) + 1) d cl (out.length : Int)) 54 ((stk.length : Int) + 1 - 1) = mI I0 (F0 47) p (stk.length : Int) d cl (out.length : Int) := by
  funext j
  by_cases g : j = 54
  · subst g; simp [va_up, mI]
  · simp [va_up, mI, g]
theorem dX2_reads_0 : decode cX2_reads 0 = .ok (.aload_n 0, 1) := by decide +kernel
theorem dX2_reads_1 : decode cX2_reads 1 = .ok (.iconst 0, 1) := by decide +kernel
theorem dX2_reads_2 : decode cX2_reads 2 = .ok (.putfield 273, 3) := by decide +kernel
theorem dX2_reads_5 : decode cX2_reads 5 = .ok (.aload_n 0, 1) := by decide +kernel
theorem dX2_reads_6 : decode cX2_reads 6 = .ok (.iconst 0, 1) := by decide +kernel
theorem dX2_reads_7 : decode cX2_reads 7 = .ok (.putfield 294, 3) := by decide +kernel
theorem dX2_reads_10 : decode cX2_reads 10 = .ok (.aload_n 0, 1) := by decide +kernel
theorem dX2_reads_11 : decode cX2_reads 11 = .ok (.iconst 0, 1) := by decide +kernel
theorem dX2_reads_12 : decode cX2_reads 12 = .ok (.putfield 303, 3) := by decide +kernel
theorem dX2_reads_15 : decode cX2_reads 15 = .ok (.aload_n 0, 1) := by decide +kernel
theorem dX2_reads_16 : decode cX2_reads 16 = .ok (.iconst 0, 1) := by decide +kernel
theorem dX2_reads_17 : decode cX2_reads 17 = .ok (.putfield 297, 3) := by decide +kernel
theorem dX2_reads_20 : decode cX2_reads 20 = .ok (.iconst 0, 1) := by decide +kernel
theorem dX2_reads_21 : decode cX2_reads 21 = .ok (.istore_n 1, 1) := by decide +kernel
theorem dX2_reads_22 : decode cX2_reads 22 = .ok (.iload_n 1, 1) := by decide +kernel
theorem dX2_reads_23 : decode cX2_reads 23 = .ok (.iconst 2, 1) := by decide +kernel
theorem dX2_reads_24 : decode cX2_reads 24 = .ok (.if_icmp .ge 16, 3) := by decide +kernel
theorem dX2_reads_27 : decode cX2_reads 27 = .ok (.aload_n 0, 1) := by decide +kernel
theorem dX2_reads_28 : decode cX2_reads 28 = .ok (.getfield 139, 3) := by decide +kernel
theorem dX2_reads_31 : decode cX2_reads 31 = .ok (.iload_n 1, 1) := by decide +kernel
theorem dX2_reads_32 : decode cX2_reads 32 = .ok (.iconst (-1), 1) := by decide +kernel
theorem dX2_reads_33 : decode cX2_reads 33 = .ok (.iastore, 1) := by decide +kernel
theorem dX2_reads_34 : decode cX2_reads 34 = .ok (.iinc 1 1, 3) := by decide +kernel
theorem dX2_reads_37 : decode cX2_reads 37 = .ok (.goto (-15), 3) := by decide +kernel
theorem dX2_reads_40 : decode cX2_reads 40 = .ok (.aload_n 0, 1) := by decide +kernel
theorem dX2_reads_41 : decode cX2_reads 41 = .ok (.invokevirtual 300, 3) := by decide +kernel
theorem dX2_reads_44 : decode cX2_reads 44 = .ok (.aload_n 0, 1) := by decide +kernel
theorem dX2_reads_45 : decode cX2_reads 45 = .ok (.iconst 0, 1) := by decide +kernel
theorem dX2_reads_46 : decode cX2_reads 46 = .ok (.invokevirtual 306, 3) := by decide +kernel
theorem dX2_reads_49 : decode cX2_reads 49 = .ok (.aload_n 0, 1) := by decide +kernel
theorem dX2_reads_50 : decode cX2_reads 50 = .ok (.getfield 294, 3) := by decide +kernel
theorem dX2_reads_53 : decode cX2_reads 53 = .ok (.ifCond .le 34, 3) := by decide +kernel
theorem dX2_reads_56 : decode cX2_reads 56 = .ok (.aload_n 0, 1) := by decide +kernel
theorem dX2_reads_57 : decode cX2_reads 57 = .ok (.dup, 1) := by decide +kernel
theorem dX2_reads_58 : decode cX2_reads 58 = .ok (.getfield 294, 3) := by decide +kernel
theorem dX2_reads_61 : decode cX2_reads 61 = .ok (.iconst 1, 1) := by decide +kernel
theorem dX2_reads_62 : decode cX2_reads 62 = .ok (.isub, 1) := by decide +kernel
theorem dX2_reads_63 : decode cX2_reads 63 = .ok (.putfield 294, 3) := by decide +kernel
theorem dX2_reads_66 : decode cX2_reads 66 = .ok (.aload_n 0, 1) := by decide +kernel
theorem dX2_reads_67 : decode cX2_reads 67 = .ok (.aload_n 0, 1) := by decide +kernel
theorem dX2_reads_68 : decode cX2_reads 68 = .ok (.getfield 130, 3) := by decide +kernel
theorem dX2_reads_71 : decode cX2_reads 71 = .ok (.aload_n 0, 1) := by decide +kernel
theorem dX2_reads_72 : decode cX2_reads 72 = .ok (.getfield 294, 3) := by decide +kernel
theorem dX2_reads_75 : decode cX2_reads 75 = .ok (.iaload, 1) := by decide +kernel
theorem dX2_reads_76 : decode cX2_reads 76 = .ok (.invokevirtual 352, 3) := by decide +kernel
theorem dX2_reads_79 : decode cX2_reads 79 = .ok (.ifCond .ne (-30), 3) := by decide +kernel
theorem dX2_reads_82 : decode cX2_reads 82 = .ok (.aload_n 0, 1) := by decide +kernel
theorem dX2_reads_83 : decode cX2_reads 83 = .ok (.getfield 276, 3) := by decide +kernel
theorem dX2_reads_86 : decode cX2_reads 86 = .ok (.ireturn, 1) := by decide +kernel
theorem dX2_reads_87 : decode cX2_reads 87 = .ok (.iconst (-1), 1) := by decide +kernel
theorem dX2_reads_88 : decode cX2_reads 88 = .ok (.ireturn, 1) := by decide +kernel
set_option maxHeartbeats 4000000 in
theorem met_reads (l : Launch) (adK adV st : Nat → Nat) (D : va_G) (E : Nat → ClassId) (A : Nat → Prop) (h : Nat) (ad : Nat → Nat) (I : Nat → Int) (F : Nat → Int → Int) (N : Nat) (r : Bool × PS) (i56 : 0 ≤ I 56 ∧ I 56 ≤ 1) (gl0 : gTxt I F) (hgx : goodX (F 47) (I 48) N 0 [0] 0 [] (I 56) (updZ (updZ (F 60) 0 (-1)) 1 (-1)) (F 61)) (hex : exec (F 47) (I 48) N 0 [0] 0 [] (I 56) (updZ (updZ (F 60) 0 (-1)) 1 (-1)) (F 61) = some r) : ME l yX2_reads cX2_reads 2 (some .int) (mrm 9) adK adV st D E A h ad [] I F (MQi D E A h ad (fun z I1 F1 => (if r.1 = true then -1 else tF (F 47) (I 48) r.2.1) = z ∧ RepS I F r.2.1 r.2.2.1 r.2.2.2.1 r.2.2.2.2.1 r.2.2.2.2.2.1 r.2.2.2.2.2.2.1 r.2.2.2.2.2.2.2 I1 F1)) := by
  refine m_startE (by decide) rfl (Nat.le_of_ble_eq_true rfl) ?_
  intro p e R s m args below meth c ls Q hR hQ hC hml hr hlk hM hS hE hl
  have hx := hC.1
  have hb := hC.2.1
  have hown := hC.2.2.1
  have hts := hC.2.2.2.1
  have hl : lv_has ls 2 [(0, .ref h)] := hl
  obtain ⟨i48, a47⟩ := id gl0
  have lp : ∀ (N : Nat) (pz : Int) (stk : List Int) (d : Int) (out : List (Int × Int)) (cl : Int) (bg cs : Int → Int) (I1 : Nat → Int) (F1 : Nat → Int → Int) (H : Heap) (locs : List Loc) (ls : Array Slot), goodX (F 47) (I 48) N pz stk d out cl bg cs → exec (F 47) (I 48) N pz stk d out cl bg cs = some r → RepS I F pz stk d out cl bg cs I1 F1 → MW D E A h ad I1 F1 H → va_S A s.heap H locs → lv_has ls 2 [(0, .ref h)] → W p l e R s m args below meth c H locs 0 0 Q (F0 m 49 ls []) := by
    intro N
    induction N with
    | zero => intro pz stk d out cl bg cs I1 F1 H locs ls hg; exact absurd hg id
    | succ N ih =>
      intro pz stk d out cl bg cs I1 F1 H locs ls hg hx1 hRep hM hS hl
      obtain ⟨rfl, tc, dd, ww, rfl, hstk, hout⟩ := hRep
      cases stk with
      | nil =>
        have er : r = (true, (pz, [], d, out, cl, bg, cs)) := (Option.some.inj hx1).symm
        subst er
        refine lv_aload_n hx hb dX2_reads_49 rfl (lv_at hl 0 rfl) ?_
        refine mg_54 (v := 0) hC hM rfl dX2_reads_50 ?_
        refine r_if_le (tgt := 87) hx hb dX2_reads_53 (by decide) (by decide) (fun c1 => ?_) (fun c1 => absurd c1 (by decide))
        refine r_iconst hx hb dX2_reads_87 ?_
        exact m_iret hC hQ hr hlk hM hS dX2_reads_88 (⟨rfl, rfl, tc, dd, ww, rfl, trivial, hout⟩)
      | cons sz stk =>
        obtain ⟨hok, hsz, hnx⟩ := goodX_c hg
        rw [exec_c] at hx1
        rw [show ((sz :: stk).length : Int) = (stk.length : Int) + 1 by simp] at hM
        have hsl : stk.length ≤ 500 := hok.2.1
        refine lv_aload_n hx hb dX2_reads_49 rfl (lv_at hl 0 rfl) ?_
        refine mg_54 (v := (stk.length : Int) + 1) hC hM rfl dX2_reads_50 ?_
        refine r_if_le (tgt := 87) hx hb dX2_reads_53 (by decide) (by omega) (fun c2 => absurd c2 (by omega)) (fun c2 => ?_)
        refine lv_aload_n hx hb dX2_reads_56 rfl (lv_at hl 0 rfl) ?_
        refine lv_dup hx hb dX2_reads_57 rfl ?_
        refine mg_54 (v := (stk.length : Int) + 1) hC hM rfl dX2_reads_58 ?_
        refine r_iconst hx hb dX2_reads_61 ?_
        refine r_isub hx hb dX2_reads_62 ?_
        refine mp_54 hC hM hS dX2_reads_63 (fun H locs hM hS => ?_)
        refine lv_aload_n hx hb dX2_reads_66 rfl (lv_at hl 0 rfl) ?_
        refine lv_aload_n hx hb dX2_reads_67 rfl (lv_at hl 0 rfl) ?_
        refine mg_53 hC hM dX2_reads_68 ?_
        refine lv_aload_n hx hb dX2_reads_71 rfl (lv_at hl 0 rfl) ?_
        refine mg_54 (v := ((stk.length : Int) + 1) - 1) hC hM rfl dX2_reads_72 ?_
        refine ml_53 (v := sz) hC hM (by omega) (show tc (((stk.length : Int) + 1) - 1) = sz by rw [show ((stk.length : Int) + 1) - 1 = (stk.length : Int) by omega]; exact hstk.1) dX2_reads_75 ?_
        rw [RepS_pop (s := sz)] at hM
        refine m_calli (m_runE (n := 1) (rest := []) (as := [.int (iI sz)]) hC hml (met_steps l adK adV st D E A h ad (mI I (F 47) pz (stk.length : Int) d cl (out.length : Int)) (mF F tc dd ww bg cs) I F sz pz stk d out cl bg cs gl0 hsz hok ⟨rfl, tc, dd, ww, rfl, hstk.2, hout⟩) q1409 q1411 qs50 q73 q1412 (by decide +kernel) ⟨rfl, rfl⟩ hR (by decide) ⟨Nat.zero_le _, Nat.zero_le _⟩ hM hE hS rfl hl.1 rfl (Nat.le_of_ble_eq_true rfl) dX2_reads_76) hS (fun z I1 F1 H locs hp hM hS => ?_)
        cases es : stepS (F 47) (I 48) sz pz stk d out cl bg cs with
        | none =>
          rw [es] at hp hx1
          obtain ⟨rfl, rfl, rfl⟩ := hp
          have er : r = (false, (pz, stk, d, out, cl, bg, cs)) := (Option.some.inj hx1).symm
          subst er
          refine r_if_ne (tgt := 49) hx hb dX2_reads_79 (by decide) (by decide) (fun c3 => absurd c3 (by decide)) (fun c3 => ?_)
          refine lv_aload_n hx hb dX2_reads_82 rfl (lv_at hl 0 rfl) ?_
          refine mg_51 (v := tF (F 47) (I 48) pz) hC hM rfl dX2_reads_83 ?_
          exact m_iret hC hQ hr hlk hM hS dX2_reads_86 (⟨rfl, rfl, tc, dd, ww, rfl, hstk.2, hout⟩)
        | some q =>
          rw [es] at hp hx1 hnx
          obtain ⟨rfl, hRep⟩ := hp
          refine r_if_ne (tgt := 49) hx hb dX2_reads_79 (by decide) (by decide) (fun c4 => ?_) (fun c4 => absurd c4 (by decide))
          exact ih _ _ _ _ _ _ _ _ _ _ _ _ hnx hx1 hRep hM hS (lv_sub hl [0] rfl)
  refine lv_aload_n hx hb dX2_reads_0 rfl (lv_at hl 0 rfl) ?_
  refine r_iconst hx hb dX2_reads_1 ?_
  refine mp_49 hC hM hS dX2_reads_2 (fun H locs hM hS => ?_)
  refine lv_aload_n hx hb dX2_reads_5 rfl (lv_at hl 0 rfl) ?_
  refine r_iconst hx hb dX2_reads_6 ?_
  refine mp_54 hC hM hS dX2_reads_7 (fun H locs hM hS => ?_)
  refine lv_aload_n hx hb dX2_reads_10 rfl (lv_at hl 0 rfl) ?_
  refine r_iconst hx hb dX2_reads_11 ?_
  refine mp_55 hC hM hS dX2_reads_12 (fun H locs hM hS => ?_)
  refine lv_aload_n hx hb dX2_reads_15 rfl (lv_at hl 0 rfl) ?_
  refine r_iconst hx hb dX2_reads_16 ?_
  refine mp_59 hC hM hS dX2_reads_17 (fun H locs hM hS => ?_)
  refine r_iconst hx hb dX2_reads_20 ?_
  refine lv_istore_n (lv' := [(1, .int (iI 0)), (0, .ref h)]) hx hb dX2_reads_21 rfl hl (by decide) rfl (fun ls hl => ?_)
  refine lv_iload_n hx hb dX2_reads_22 rfl (lv_at hl 0 rfl) ?_
  refine r_iconst hx hb dX2_reads_23 ?_
  refine r_icmp_ge (tgt := 40) hx hb dX2_reads_24 (by decide) (by decide) (by decide) (fun c5 => absurd c5 (by decide)) (fun c5 => ?_)
  refine lv_aload_n hx hb dX2_reads_27 rfl (lv_at hl 1 rfl) ?_
  refine mg_60 hC hM dX2_reads_28 ?_
  refine lv_iload_n hx hb dX2_reads_31 rfl (lv_at hl 0 rfl) ?_
  refine r_iconst hx hb dX2_reads_32 ?_
  refine ms_60 (v := -1) hC hM hS (by decide) dX2_reads_33 (fun H locs hM hS => ?_)
  refine lv_iinc (v := iI (0 + 1)) (lv' := [(1, .int (iI (0 + 1))), (0, .ref h)]) hx hb dX2_reads_34 hl (k := 0) rfl (iI_add _ _) (by decide) rfl (fun ls hl => ?_)
  refine lv_goto (tgt := 22) hx hb dX2_reads_37 (by decide) ?_
  have hl : lv_has ls 2 [(1, .int (iI 1)), (0, .ref h)] := hl
  refine lv_iload_n hx hb dX2_reads_22 rfl (lv_at hl 0 rfl) ?_
  refine r_iconst hx hb dX2_reads_23 ?_
  refine r_icmp_ge (tgt := 40) hx hb dX2_reads_24 (by decide) (by decide) (by decide) (fun c6 => absurd c6 (by decide)) (fun c6 => ?_)
  refine lv_aload_n hx hb dX2_reads_27 rfl (lv_at hl 1 rfl) ?_
  refine mg_60 hC hM dX2_reads_28 ?_
  refine lv_iload_n hx hb dX2_reads_31 rfl (lv_at hl 0 rfl) ?_
  refine r_iconst hx hb dX2_reads_32 ?_
  refine ms_60 (v := -1) hC hM hS (by decide) dX2_reads_33 (fun H locs hM hS => ?_)
  refine lv_iinc (v := iI (1 + 1)) (lv' := [(1, .int (iI (1 + 1))), (0, .ref h)]) hx hb dX2_reads_34 hl (k := 0) rfl (iI_add _ _) (by decide) rfl (fun ls hl => ?_)
  refine lv_goto (tgt := 22) hx hb dX2_reads_37 (by decide) ?_
  have hl : lv_has ls 2 [(1, .int (iI 2)), (0, .ref h)] := hl
  refine lv_iload_n hx hb dX2_reads_22 rfl (lv_at hl 0 rfl) ?_
  refine r_iconst hx hb dX2_reads_23 ?_
  refine r_icmp_ge (tgt := 40) hx hb dX2_reads_24 (by decide) (by decide) (by decide) (fun c7 => ?_) (fun c7 => absurd c7 (by decide))
  refine lv_aload_n hx hb dX2_reads_40 rfl (lv_at hl 1 rfl) ?_
  refine m_callv (m_runE (n := 0) (rest := []) (as := []) hC hml (met_next l adK adV st D E A h ad (va_up (va_up (va_up (va_up I 49 0) 54 0) 55 0) 59 0) (upF (upF F 60 0 (-1)) 60 1 (-1)) (show 0 ≤ 0 ∧ 0 ≤ (I 48) by omega) gl0) q1388 q1390 qs47 q73 q1391 (by decide +kernel) ⟨rfl, rfl⟩ hR (by decide) ⟨Nat.zero_le _, Nat.zero_le _⟩ hM hE hS rfl hl.1 rfl (Nat.le_of_ble_eq_true rfl) dX2_reads_41) hS (fun I9 F10 H locs hp11 hM hS => ?_)
  obtain ⟨rfl, rfl⟩ := hp11
  refine lv_aload_n hx hb dX2_reads_44 rfl (lv_at hl 1 rfl) ?_
  refine r_iconst hx hb dX2_reads_45 ?_
  refine m_callv (kX2_push (rest := []) (as := [.int (iI 0)]) hC hml (met_push l D E A h ad (va_up (va_up (va_up (va_up (va_up (va_up (va_up (va_up I 49 0) 54 0) 55 0) 59 0) 49 (tT (F 47) (I 48) 0)) 50 (tK (F 47) (I 48) 0)) 51 (tF (F 47) (I 48) 0)) 52 (tV (F 47) (I 48) 0)) (upF (upF F 60 0 (-1)) 60 1 (-1)) 0 (show 0 ≤ 0 ∧ 0 < 600 by omega)) ⟨rfl, rfl⟩ hR (by decide) hM rfl hl.1 rfl (Nat.le_of_ble_eq_true rfl) dX2_reads_46) hS (fun I13 F14 H locs hp15 hM hS => ?_)
  obtain ⟨rfl, rfl⟩ := hp15
  have hT := tT_bd (F 47) (n := I 48) (p := 0) i48.1
  have eI : va_up (va_up (va_up (va_up (va_up (va_up (va_up (va_up (va_up I 49 0) 54 0) 55 0) 59 0) 49 (tT (F 47) (I 48) 0)) 50 (tK (F 47) (I 48) 0)) 51 (tF (F 47) (I 48) 0)) 52 (tV (F 47) (I 48) 0)) 54 (0 + 1) = mI I (F 47) 0 (([0] : List Int).length : Int) 0 (I 56) (([] : List (Int × Int)).length : Int) := by
    funext i
    by_cases g49 : i = 49
    · subst g49; simp [va_up, mI]
    by_cases g50 : i = 50
    · subst g50; simp [va_up, mI]
    by_cases g51 : i = 51
    · subst g51; simp [va_up, mI]
    by_cases g52 : i = 52
    · subst g52; simp [va_up, mI]
    by_cases g54 : i = 54
    · subst g54; simp [va_up, mI]
    by_cases g55 : i = 55
    · subst g55; simp [va_up, mI]
    by_cases g56 : i = 56
    · subst g56; simp [va_up, mI]
    by_cases g59 : i = 59
    · subst g59; simp [va_up, mI]
    simp [va_up, mI, g49, g50, g51, g52, g54, g55, g56, g59]
  have eF : upF (upF (upF F 60 0 (-1)) 60 1 (-1)) 53 0 0 = mF F (updZ (F 53) 0 0) (F 57) (F 58) (updZ (updZ (F 60) 0 (-1)) 1 (-1)) (F 61) := by
    funext i
    by_cases g53 : i = 53
    · subst g53; simp [upF, va_up, mF]
    by_cases g57 : i = 57
    · subst g57; simp [upF, va_up, mF]
    by_cases g58 : i = 58
    · subst g58; simp [upF, va_up, mF]
    by_cases g60 : i = 60
    · subst g60; simp [upF, va_up, mF]
    by_cases g61 : i = 61
    · subst g61; simp [upF, va_up, mF]
    simp [upF, va_up, mF, g53, g57, g58, g60, g61]
  exact lp N 0 [0] 0 [] (I 56) (updZ (updZ (F 60) 0 (-1)) 1 (-1)) (F 61) _ _ _ _ _ hgx hex ⟨eI, _, _, _, eF, ⟨updZ_s, trivial⟩, fun i hi => absurd hi (by simp)⟩ hM hS (lv_sub hl [1] rfl)
theorem dX2_fault_0 : decode cX2_fault 0 = .ok (.aload_n 0, 1) := by decide +kernel
theorem dX2_fault_1 : decode cX2_fault 1 = .ok (.invokevirtual 355, 3) := by decide +kernel
theorem dX2_fault_4 : decode cX2_fault 4 = .ok (.ireturn, 1) := by decide +kernel
set_option maxHeartbeats 4000000 in
theorem met_fault (l : Launch) (adK adV st : Nat → Nat) (D : va_G) (E : Nat → ClassId) (A : Nat → Prop) (h : Nat) (ad : Nat → Nat) (I : Nat → Int) (F : Nat → Int → Int) (N : Nat) (r : Bool × PS) (i56 : 0 ≤ I 56 ∧ I 56 ≤ 1) (gl0 : gTxt I F) (hgx : goodX (F 47) (I 48) N 0 [0] 0 [] (I 56) (updZ (updZ (F 60) 0 (-1)) 1 (-1)) (F 61)) (hex : exec (F 47) (I 48) N 0 [0] 0 [] (I 56) (updZ (updZ (F 60) 0 (-1)) 1 (-1)) (F 61) = some r) : ME l yX2_fault cX2_fault 1 (some .int) (mrm 10) adK adV st D E A h ad [] I F (MQi D E A h ad (fun z I1 F1 => (if r.1 = true then -1 else tF (F 47) (I 48) r.2.1) = z ∧ RepS I F r.2.1 r.2.2.1 r.2.2.2.1 r.2.2.2.2.1 r.2.2.2.2.2.1 r.2.2.2.2.2.2.1 r.2.2.2.2.2.2.2 I1 F1)) := by
  refine m_startE (by decide) rfl (Nat.le_of_ble_eq_true rfl) ?_
  intro p e R s m args below meth c ls Q hR hQ hC hml hr hlk hM hS hE hl
  have hx := hC.1
  have hb := hC.2.1
  have hown := hC.2.2.1
  have hts := hC.2.2.2.1
  have hl : lv_has ls 1 [(0, .ref h)] := hl
  refine lv_aload_n hx hb dX2_fault_0 rfl (lv_at hl 0 rfl) ?_
  refine m_calli (m_runE (n := 0) (rest := []) (as := []) hC hml (met_reads l adK adV st D E A h ad I F N r i56 gl0 hgx hex) q1384 q1386 qs46 q73 q1387 (by decide +kernel) ⟨rfl, rfl⟩ hR (by decide) ⟨Nat.zero_le _, Nat.zero_le _⟩ hM hE hS rfl hl.1 rfl (Nat.le_of_ble_eq_true rfl) dX2_fault_1) hS (fun z1 I2 F3 H locs hp4 hM hS => ?_)
  obtain ⟨rfl, hRep⟩ := hp4
  exact m_iret hC hQ hr hlk hM hS dX2_fault_4 (⟨rfl, hRep⟩)
theorem up_id2 (G : Nat → Int → Int) : va_up (va_up G 64 (G 64)) 65 (G 65) = G := by rw [up_self]; exact up_self G 65
theorem up_id3 (G : Nat → Int → Int) : va_up (va_up G 62 (G 62)) 63 (G 63) = G := by rw [up_self]; exact up_self G 63
theorem fld62 (G : Nat → Int → Int) (a b : Int → Int) (z v w : Int) : upF (upF (va_up (va_up G 62 a) 63 b) 62 z v) 63 z w = va_up (va_up G 62 (updZ a z v)) 63 (updZ b z w) := by
  rw [upF_in G (by decide), upF_up]
theorem fld64 (G : Nat → Int → Int) (a b : Int → Int) (z v w : Int) : upF (upF (va_up (va_up G 64 a) 65 b) 64 z v) 65 z w = va_up (va_up G 64 (updZ a z v)) 65 (updZ b z w) := by
  rw [upF_in G (by decide), upF_up]
theorem dX2_rules_0 : decode cX2_rules 0 = .ok (.aload_n 0, 1) := by decide +kernel
theorem dX2_rules_1 : decode cX2_rules 1 = .ok (.invokevirtual 355, 3) := by decide +kernel
theorem dX2_rules_4 : decode cX2_rules 4 = .ok (.iconst (-1), 1) := by decide +kernel
theorem dX2_rules_5 : decode cX2_rules 5 = .ok (.if_icmp .eq 5, 3) := by decide +kernel
theorem dX2_rules_8 : decode cX2_rules 8 = .ok (.iconst 0, 1) := by decide +kernel
theorem dX2_rules_9 : decode cX2_rules 9 = .ok (.ireturn, 1) := by decide +kernel
theorem dX2_rules_10 : decode cX2_rules 10 = .ok (.iconst 0, 1) := by decide +kernel
theorem dX2_rules_11 : decode cX2_rules 11 = .ok (.istore_n 1, 1) := by decide +kernel
theorem dX2_rules_12 : decode cX2_rules 12 = .ok (.iload_n 1, 1) := by decide +kernel
theorem dX2_rules_13 : decode cX2_rules 13 = .ok (.aload_n 0, 1) := by decide +kernel
theorem dX2_rules_14 : decode cX2_rules 14 = .ok (.getfield 297, 3) := by decide +kernel
theorem dX2_rules_17 : decode cX2_rules 17 = .ok (.if_icmp .ge 33, 3) := by decide +kernel
theorem dX2_rules_20 : decode cX2_rules 20 = .ok (.aload_n 0, 1) := by decide +kernel
theorem dX2_rules_21 : decode cX2_rules 21 = .ok (.getfield 145, 3) := by decide +kernel
theorem dX2_rules_24 : decode cX2_rules 24 = .ok (.iload_n 1, 1) := by decide +kernel
theorem dX2_rules_25 : decode cX2_rules 25 = .ok (.aload_n 0, 1) := by decide +kernel
theorem dX2_rules_26 : decode cX2_rules 26 = .ok (.getfield 133, 3) := by decide +kernel
theorem dX2_rules_29 : decode cX2_rules 29 = .ok (.iload_n 1, 1) := by decide +kernel
theorem dX2_rules_30 : decode cX2_rules 30 = .ok (.iaload, 1) := by decide +kernel
theorem dX2_rules_31 : decode cX2_rules 31 = .ok (.iastore, 1) := by decide +kernel
theorem dX2_rules_32 : decode cX2_rules 32 = .ok (.aload_n 0, 1) := by decide +kernel
theorem dX2_rules_33 : decode cX2_rules 33 = .ok (.getfield 148, 3) := by decide +kernel
theorem dX2_rules_36 : decode cX2_rules 36 = .ok (.iload_n 1, 1) := by decide +kernel
theorem dX2_rules_37 : decode cX2_rules 37 = .ok (.aload_n 0, 1) := by decide +kernel
theorem dX2_rules_38 : decode cX2_rules 38 = .ok (.getfield 136, 3) := by decide +kernel
theorem dX2_rules_41 : decode cX2_rules 41 = .ok (.iload_n 1, 1) := by decide +kernel
theorem dX2_rules_42 : decode cX2_rules 42 = .ok (.iaload, 1) := by decide +kernel
theorem dX2_rules_43 : decode cX2_rules 43 = .ok (.iastore, 1) := by decide +kernel
theorem dX2_rules_44 : decode cX2_rules 44 = .ok (.iinc 1 1, 3) := by decide +kernel
theorem dX2_rules_47 : decode cX2_rules 47 = .ok (.goto (-35), 3) := by decide +kernel
theorem dX2_rules_50 : decode cX2_rules 50 = .ok (.iconst 0, 1) := by decide +kernel
theorem dX2_rules_51 : decode cX2_rules 51 = .ok (.istore_n 1, 1) := by decide +kernel
theorem dX2_rules_52 : decode cX2_rules 52 = .ok (.iload_n 1, 1) := by decide +kernel
theorem dX2_rules_53 : decode cX2_rules 53 = .ok (.iconst 2, 1) := by decide +kernel
theorem dX2_rules_54 : decode cX2_rules 54 = .ok (.if_icmp .ge 33, 3) := by decide +kernel
theorem dX2_rules_57 : decode cX2_rules 57 = .ok (.aload_n 0, 1) := by decide +kernel
theorem dX2_rules_58 : decode cX2_rules 58 = .ok (.getfield 151, 3) := by decide +kernel
theorem dX2_rules_61 : decode cX2_rules 61 = .ok (.iload_n 1, 1) := by decide +kernel
theorem dX2_rules_62 : decode cX2_rules 62 = .ok (.aload_n 0, 1) := by decide +kernel
theorem dX2_rules_63 : decode cX2_rules 63 = .ok (.getfield 139, 3) := by decide +kernel
theorem dX2_rules_66 : decode cX2_rules 66 = .ok (.iload_n 1, 1) := by decide +kernel
theorem dX2_rules_67 : decode cX2_rules 67 = .ok (.iaload, 1) := by decide +kernel
theorem dX2_rules_68 : decode cX2_rules 68 = .ok (.iastore, 1) := by decide +kernel
theorem dX2_rules_69 : decode cX2_rules 69 = .ok (.aload_n 0, 1) := by decide +kernel
theorem dX2_rules_70 : decode cX2_rules 70 = .ok (.getfield 154, 3) := by decide +kernel
theorem dX2_rules_73 : decode cX2_rules 73 = .ok (.iload_n 1, 1) := by decide +kernel
theorem dX2_rules_74 : decode cX2_rules 74 = .ok (.aload_n 0, 1) := by decide +kernel
theorem dX2_rules_75 : decode cX2_rules 75 = .ok (.getfield 142, 3) := by decide +kernel
theorem dX2_rules_78 : decode cX2_rules 78 = .ok (.iload_n 1, 1) := by decide +kernel
theorem dX2_rules_79 : decode cX2_rules 79 = .ok (.iaload, 1) := by decide +kernel
theorem dX2_rules_80 : decode cX2_rules 80 = .ok (.iastore, 1) := by decide +kernel
theorem dX2_rules_81 : decode cX2_rules 81 = .ok (.iinc 1 1, 3) := by decide +kernel
theorem dX2_rules_84 : decode cX2_rules 84 = .ok (.goto (-32), 3) := by decide +kernel
theorem dX2_rules_87 : decode cX2_rules 87 = .ok (.aload_n 0, 1) := by decide +kernel
theorem dX2_rules_88 : decode cX2_rules 88 = .ok (.iconst 0, 1) := by decide +kernel
theorem dX2_rules_89 : decode cX2_rules 89 = .ok (.putfield 260, 3) := by decide +kernel
theorem dX2_rules_92 : decode cX2_rules 92 = .ok (.iconst 1, 1) := by decide +kernel
theorem dX2_rules_93 : decode cX2_rules 93 = .ok (.ireturn, 1) := by decide +kernel
set_option maxHeartbeats 4000000 in
theorem met_rules (l : Launch) (adK adV st : Nat → Nat) (D : va_G) (E : Nat → ClassId) (A : Nat → Prop) (h : Nat) (ad : Nat → Nat) (I : Nat → Int) (F : Nat → Int → Int) (N : Nat) (r : Bool × PS) (i56 : 0 ≤ I 56 ∧ I 56 ≤ 1) (gl0 : gTxt I F) (hgx : goodX (F 47) (I 48) N 0 [0] 0 [] (I 56) (updZ (updZ (F 60) 0 (-1)) 1 (-1)) (F 61)) (hex : exec (F 47) (I 48) N 0 [0] 0 [] (I 56) (updZ (updZ (F 60) 0 (-1)) 1 (-1)) (F 61) = some r) (hp0 : r.1 = false → 0 ≤ tF (F 47) (I 48) r.2.1 ∧ tF (F 47) (I 48) r.2.1 ≤ 300) (hlo : (r.2.2.2.2.1).length ≤ 300) : ME l yX2_rules cX2_rules 2 (some .boolean) (mrm 10) adK adV st D E A h ad [] I F (MQi D E A h ad (fun z I1 F1 => (r.1 = false ∧ 0 = z ∧ RepS I F r.2.1 r.2.2.1 r.2.2.2.1 r.2.2.2.2.1 r.2.2.2.2.2.1 r.2.2.2.2.2.2.1 r.2.2.2.2.2.2.2 I1 F1) ∨ (r.1 = true ∧ 1 = z ∧ ∃ tc dd ww, I1 = va_up (mI I (F 47) r.2.1 ((r.2.2.1).length : Int) r.2.2.2.1 r.2.2.2.2.2.1 ((r.2.2.2.2.1).length : Int)) 48 0 ∧ F1 = va_up (va_up (va_up (va_up (mF F tc dd ww r.2.2.2.2.2.2.1 r.2.2.2.2.2.2.2) 62 (fedT (F 62) 0 dd ((r.2.2.2.2.1).length : Int))) 63 (fedT (F 63) 0 ww ((r.2.2.2.2.1).length : Int))) 64 (fedT (F 64) 0 r.2.2.2.2.2.2.1 2)) 65 (fedT (F 65) 0 r.2.2.2.2.2.2.2 2) ∧ outIs dd ww r.2.2.2.2.1))) := by
  refine m_startE (by decide) rfl (Nat.le_of_ble_eq_true rfl) ?_
  intro p e R s m args below meth c ls Q hR hQ hC hml hr hlk hM hS hE hl
  have hx := hC.1
  have hb := hC.2.1
  have hown := hC.2.2.1
  have hts := hC.2.2.2.1
  have hl : lv_has ls 2 [(0, .ref h)] := hl
  refine lv_aload_n hx hb dX2_rules_0 rfl (lv_at hl 0 rfl) ?_
  refine m_calli (m_runE (n := 0) (rest := []) (as := []) hC hml (met_reads l adK adV st D E A h ad I F N r i56 gl0 hgx hex) q1384 q1386 qs46 q73 q1387 (by decide +kernel) ⟨rfl, rfl⟩ hR (by decide) ⟨Nat.zero_le _, Nat.zero_le _⟩ hM hE hS rfl hl.1 rfl (Nat.le_of_ble_eq_true rfl) dX2_rules_1) hS (fun z1 I2 F3 H locs hp4 hM hS => ?_)
  obtain ⟨rfl, hRep⟩ := hp4
  obtain ⟨b, pz, stk, d, out, cl, bg, cs⟩ := r
  cases b with
  | false =>
    have hp0 : 0 ≤ tF (F 47) (I 48) pz ∧ tF (F 47) (I 48) pz ≤ 300 := hp0 rfl
    refine W.eq (g2 := F0 m 4 ls [.int (iI (tF (F 47) (I 48) pz))]) rfl ?_
    refine r_iconst hx hb dX2_rules_4 ?_
    refine r_icmp_eq (tgt := 10) hx hb dX2_rules_5 (by decide) (by omega) (by decide) (fun c5 => absurd c5 (by omega)) (fun c5 => ?_)
    refine r_iconst hx hb dX2_rules_8 ?_
    exact m_zret hC hQ hr hlk hM hS (by decide) dX2_rules_9 (Or.inl ⟨rfl, rfl, hRep⟩)
  | true =>
    refine W.eq (g2 := F0 m 4 ls [.int (iI (-1))]) rfl ?_
    obtain ⟨rfl, tc, dd, ww, rfl, hstk, hout⟩ := hRep
    have hlo : out.length ≤ 300 := hlo
    refine r_iconst hx hb dX2_rules_4 ?_
    refine r_icmp_eq (tgt := 10) hx hb dX2_rules_5 (by decide) (by decide) (by decide) (fun c6 => ?_) (fun c6 => absurd c6 (by decide))
    refine r_iconst hx hb dX2_rules_10 ?_
    refine lv_istore_n (lv' := [(1, .int (iI 0)), (0, .ref h)]) hx hb dX2_rules_11 rfl hl (by decide) rfl (fun ls hl => ?_)
    have loop12_7 : ∀ (n : Nat) (k : Int) (F1 : Nat → Int → Int), (out.length : Int) - k < (n : Int) → 0 ≤ k → k ≤ (out.length : Int) → F1 = va_up (va_up (mF F tc dd ww bg cs) 62 (fedT (F 62) 0 dd k)) 63 (fedT (F 63) 0 ww k) → ∀ (H : Heap) (locs : List Loc) (ls : Array Slot), MW D E A h ad (mI I (F 47) pz (stk.length : Int) d cl (out.length : Int)) F1 H → va_S A s.heap H locs → lv_has ls 2 [(1, .int (iI k)), (0, .ref h)] → W p l e R s m args below meth c H locs 0 0 Q (F0 m 12 ls []) := by
      intro n
      induction n with
      | zero => intro k F1 hn9 hk0 hk1 eF; exfalso; omega
      | succ n ih8 =>
        intro k F1 hn9 hk0 hk1 eF H locs ls hM hS hl
        subst eF
        refine lv_iload_n hx hb dX2_rules_12 rfl (lv_at hl 0 rfl) ?_
        refine lv_aload_n hx hb dX2_rules_13 rfl (lv_at hl 1 rfl) ?_
        refine mg_59 (v := (out.length : Int)) hC hM rfl dX2_rules_14 ?_
        refine r_icmp_ge (tgt := 50) hx hb dX2_rules_17 (by decide) (by omega) (by omega) (fun c10 => ?_) (fun c10 => ?_)
        · have ek : k = (out.length : Int) := by omega
          subst ek
          refine r_iconst hx hb dX2_rules_50 ?_
          refine lv_istore_n (lv' := [(1, .int (iI 0)), (0, .ref h)]) hx hb dX2_rules_51 rfl hl (by decide) rfl (fun ls hl => ?_)
          have loop52_11 : ∀ (n : Nat) (j : Int) (F1 : Nat → Int → Int), 2 - j < (n : Int) → 0 ≤ j → j ≤ 2 → F1 = va_up (va_up (va_up (va_up (mF F tc dd ww bg cs) 62 (fedT (F 62) 0 dd (out.length : Int))) 63 (fedT (F 63) 0 ww (out.length : Int))) 64 (fedT (F 64) 0 bg j)) 65 (fedT (F 65) 0 cs j) → ∀ (H : Heap) (locs : List Loc) (ls : Array Slot), MW D E A h ad (mI I (F 47) pz (stk.length : Int) d cl (out.length : Int)) F1 H → va_S A s.heap H locs → lv_has ls 2 [(1, .int (iI j)), (0, .ref h)] → W p l e R s m args below meth c H locs 0 0 Q (F0 m 52 ls []) := by
            intro n
            induction n with
            | zero => intro j F1 hn13 hj0 hj1 eF; exfalso; omega
            | succ n ih12 =>
              intro j F1 hn13 hj0 hj1 eF H locs ls hM hS hl
              subst eF
              refine lv_iload_n hx hb dX2_rules_52 rfl (lv_at hl 0 rfl) ?_
              refine r_iconst hx hb dX2_rules_53 ?_
              refine r_icmp_ge (tgt := 87) hx hb dX2_rules_54 (by decide) (by omega) (by decide) (fun c14 => ?_) (fun c14 => ?_)
              · have ej : j = 2 := by omega
                subst ej
                refine lv_aload_n hx hb dX2_rules_87 rfl (lv_at hl 1 rfl) ?_
                refine r_iconst hx hb dX2_rules_88 ?_
                refine mp_48 hC hM hS dX2_rules_89 (fun H locs hM hS => ?_)
                refine r_iconst hx hb dX2_rules_92 ?_
                exact m_zret hC hQ hr hlk hM hS (by decide) dX2_rules_93 (Or.inr ⟨rfl, rfl, tc, dd, ww, rfl, rfl, hout⟩)
              · refine lv_aload_n hx hb dX2_rules_57 rfl (lv_at hl 1 rfl) ?_
                refine mg_64 hC hM dX2_rules_58 ?_
                refine lv_iload_n hx hb dX2_rules_61 rfl (lv_at hl 0 rfl) ?_
                refine lv_aload_n hx hb dX2_rules_62 rfl (lv_at hl 1 rfl) ?_
                refine mg_60 hC hM dX2_rules_63 ?_
                refine lv_iload_n hx hb dX2_rules_66 rfl (lv_at hl 0 rfl) ?_
                refine ml_60 (v := bg j) hC hM (by omega) rfl dX2_rules_67 ?_
                refine ms_64 (v := bg j) hC hM hS (by omega) dX2_rules_68 (fun H locs hM hS => ?_)
                refine lv_aload_n hx hb dX2_rules_69 rfl (lv_at hl 1 rfl) ?_
                refine mg_65 hC hM dX2_rules_70 ?_
                refine lv_iload_n hx hb dX2_rules_73 rfl (lv_at hl 0 rfl) ?_
                refine lv_aload_n hx hb dX2_rules_74 rfl (lv_at hl 1 rfl) ?_
                refine mg_61 hC hM dX2_rules_75 ?_
                refine lv_iload_n hx hb dX2_rules_78 rfl (lv_at hl 0 rfl) ?_
                refine ml_61 (v := cs j) hC hM (by omega) rfl dX2_rules_79 ?_
                refine ms_65 (v := cs j) hC hM hS (by omega) dX2_rules_80 (fun H locs hM hS => ?_)
                refine lv_iinc (v := iI (j + 1)) (lv' := [(1, .int (iI (j + 1))), (0, .ref h)]) hx hb dX2_rules_81 hl (k := 0) rfl (iI_add _ _) (by decide) rfl (fun ls hl => ?_)
                refine lv_goto (tgt := 52) hx hb dX2_rules_84 (by decide) ?_
                exact ih12 (j + 1) (upF (upF (va_up (va_up (va_up (va_up (mF F tc dd ww bg cs) 62 (fedT (F 62) 0 dd (out.length : Int))) 63 (fedT (F 63) 0 ww (out.length : Int))) 64 (fedT (F 64) 0 bg j)) 65 (fedT (F 65) 0 cs j)) 64 j (bg j)) 65 j (cs j)) (by omega) (by omega) (by omega) (by rw [← fedT_s _ _ _ hj0, ← fedT_s _ _ _ hj0, Int.zero_add]; exact fld64 _ _ _ _ _ _) _ _ _ hM hS (lv_sub hl [0, 1] rfl)
          exact loop52_11 ((2 - 0 : Int).toNat + 1) 0 (va_up (va_up (mF F tc dd ww bg cs) 62 (fedT (F 62) 0 dd (out.length : Int))) 63 (fedT (F 63) 0 ww (out.length : Int))) (by omega) (by omega) (by omega) (by rw [fedT_0, fedT_0]; exact (up_id2 _).symm) _ _ _ hM hS (lv_sub hl [0, 1] rfl)
        · refine lv_aload_n hx hb dX2_rules_20 rfl (lv_at hl 1 rfl) ?_
          refine mg_62 hC hM dX2_rules_21 ?_
          refine lv_iload_n hx hb dX2_rules_24 rfl (lv_at hl 0 rfl) ?_
          refine lv_aload_n hx hb dX2_rules_25 rfl (lv_at hl 1 rfl) ?_
          refine mg_57 hC hM dX2_rules_26 ?_
          refine lv_iload_n hx hb dX2_rules_29 rfl (lv_at hl 0 rfl) ?_
          refine ml_57 (v := dd k) hC hM (by omega) rfl dX2_rules_30 ?_
          refine ms_62 (v := dd k) hC hM hS (by omega) dX2_rules_31 (fun H locs hM hS => ?_)
          refine lv_aload_n hx hb dX2_rules_32 rfl (lv_at hl 1 rfl) ?_
          refine mg_63 hC hM dX2_rules_33 ?_
          refine lv_iload_n hx hb dX2_rules_36 rfl (lv_at hl 0 rfl) ?_
          refine lv_aload_n hx hb dX2_rules_37 rfl (lv_at hl 1 rfl) ?_
          refine mg_58 hC hM dX2_rules_38 ?_
          refine lv_iload_n hx hb dX2_rules_41 rfl (lv_at hl 0 rfl) ?_
          refine ml_58 (v := ww k) hC hM (by omega) rfl dX2_rules_42 ?_
          refine ms_63 (v := ww k) hC hM hS (by omega) dX2_rules_43 (fun H locs hM hS => ?_)
          refine lv_iinc (v := iI (k + 1)) (lv' := [(1, .int (iI (k + 1))), (0, .ref h)]) hx hb dX2_rules_44 hl (k := 0) rfl (iI_add _ _) (by decide) rfl (fun ls hl => ?_)
          refine lv_goto (tgt := 12) hx hb dX2_rules_47 (by decide) ?_
          exact ih8 (k + 1) (upF (upF (va_up (va_up (mF F tc dd ww bg cs) 62 (fedT (F 62) 0 dd k)) 63 (fedT (F 63) 0 ww k)) 62 k (dd k)) 63 k (ww k)) (by omega) (by omega) (by omega) (by rw [← fedT_s _ _ _ hk0, ← fedT_s _ _ _ hk0, Int.zero_add]; exact fld62 _ _ _ _ _ _) _ _ _ hM hS (lv_sub hl [0, 1] rfl)
    exact loop12_7 (((out.length : Int) - 0 : Int).toNat + 1) 0 (mF F tc dd ww bg cs) (by omega) (by omega) (by omega) (by rw [fedT_0, fedT_0]; exact (up_id3 _).symm) _ _ _ hM hS (lv_sub hl [0, 1] rfl)
