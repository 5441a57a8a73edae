/-! THE COMPONENT: a ship copied -/
set_option maxRecDepth 100000

theorem arrV_cpy (cI : ClassId) (n : Nat) (f g : Nat → Int32) : arrV cI n (fun j => Value.int (va_cpy f g 0 0 n j)) = arrV cI n (fun j => Value.int (f j)) := by
  unfold arrV
  congr 2
  funext j
  have hj := j.isLt
  simp [va_cpy, hj]
section CPY
variable {p : Program} {l : Launch} {e : Env} {R : Room} {s : State} {m : MethodId} {args : Array Value} {below : List Frame} {meth : Method} {c : Code} {H : Heap} {locs : List Loc} {cells slots : Nat} {Q : State → Prop}
variable {cc : ByteArray} {pc : Nat} {ls : Array Slot} {rest st0 : List Value} {D : va_G} {E : Nat → ClassId} {A V : Nat → Prop} {ad nv : Nat → Nat} {C : Nat → va_E} {H0 : Heap} {own : String} {adK adV st : Nat → Nat}
variable {I : Nat → Int} {F : Nat → Int → Int} {S : Nat → Nat → Int} {Y : Nat → Int → Int} {L : Nat → Nat}
theorem g_copy (hC : CK p m c cc s args own D E) (hml : c.maxLocals = ls.size) {index : Nat} (hlink : Cond.methodLink own index arraycopyName ∈ lw_all) (hnat : Cond.native arraycopyName ∈ lw_all) (hstat : Cond.static arraycopyName ∈ lw_all) (hini : Cond.initialized "java/lang/System" ∈ lw_all) (hG : GW D A V ad C H) (hS : va_S A H0 H locs) (r0 r1 t : Nat) (hV0 : V r0) (hV1 : V r1) {n0 : Nat} {f g : Int → Int} (he0 : C r0 = .inl (E t, n0, ai f)) (he1 : C r1 = .inl (E t, n0, ai g)) {ty : FieldType} (ht : (tyAll E)[t]? = some (E t, ty)) (hprim : refKind ty = false) (hfit : ∀ i : Nat, i < n0 → fits ty (.int (iI (f i))) = true) {zn : Int} (hz : zn = n0) (hn : n0 < 1000) (hframes : 1 ≤ R.frames) (hlocals : (rest.map fun v => v.category).sum + (nativeFrameWords "java/lang/System" "arraycopy" 5 + 11) ≤ R.locals) (hdg : decode cc pc = .ok (.invokestatic index, 3)) (C1 : Nat → va_E) (h1 : C1 r1 = .inl (E t, n0, ai f)) (h2 : ∀ q, V q → q ≠ r1 → C1 q = C q)
    (kk : ∀ (H1 : Heap) (locs1 : List Loc), GW D A V ad C1 H1 → va_S A H0 H1 locs1 → W p l e R s m args below meth c H1 locs1 cells slots Q (F0 m (pc + 3) ls rest)) : W p l e R s m args below meth c H locs cells slots Q (F0 m pc ls (.int (iI zn) :: .int (iI 0) :: .ref (ad r1) :: .int (iI 0) :: .ref (ad r0) :: rest)) := by
  have hcl : (iI zn).toNatClampNeg = n0 := by rw [iI_cl ⟨by omega, by omega⟩]; omega
  have hti : (iI zn).toInt = n0 := by rw [iI_toInt ⟨by omega, by omega⟩]; omega
  have hpos : ¬ iI zn < 0 := fun q => by
    have h := (Int32.lt_iff_toInt_lt.mp q)
    rw [hti] at h
    have : (0 : Int32).toInt = 0 := rfl
    omega
  intro T hT X
  have g0 := (hG r0 hV0).1
  rw [he0] at g0
  have g1 := (hG r1 hV1).1
  rw [he1] at g1
  have hc0 : H[ad r0]? = some (vp_cell (E t) (n0, .inl (fun j => iI (f j)))) := g0
  have hc1 : H[ad r1]? = some (vp_cell (E t) (n0, .inl (fun j => iI (g j)))) := g1
  obtain ⟨-, k0, hk0, cm0, hkk0⟩ := (hC.2.2.2.2.2 t _ ht).1 n0 (fun j => .int (iI (f j)))
  obtain ⟨-, k1, hk1, cm1, hkk1⟩ := (hC.2.2.2.2.2 t _ ht).1 n0 (fun j => .int (iI (g j)))
  obtain ⟨vm', X', step⟩ := X.arraycopy hC.1 hC.2.2.1 (hC.2.2.2.1 _ hlink) (hC.2.2.2.1 _ hnat) (hC.2.2.2.1 _ hstat) (hC.2.2.2.1 _ hini) (src := ad r0) (dst := ad r1) (cs := vp_cell (E t) (n0, .inl (fun j => iI (f j)))) (cd := vp_cell (E t) (n0, .inl (fun j => iI (g j)))) (srcPos := iI 0) (destPos := iI 0) (n := iI zn) (by rw [hT]; exact hc0) (by rw [hT]; exact hc1)
    (fun _ h => by cases h) (fun _ h => by cases h) (fun h => by cases h) (fun h => by cases h) hk0 hk1 hkk0 hkk1 (by simp [hprim]) (by decide) (by decide) hpos
    (by rw [hti]; show ¬ _ > ((arrV (E t) n0 (fun j => .int (iI (f j)))).slots.size : Int); rw [arrV_size]; have : (iI 0).toInt = 0 := rfl; omega)
    (by rw [hti]; show ¬ _ > ((arrV (E t) n0 (fun j => .int (iI (g j)))).slots.size : Int); rw [arrV_size]; have : (iI 0).toInt = 0 := rfl; omega)
    (fun vm₁ _ i hi => by
      rw [hcl] at hi
      have e0 : (iI 0).toNatClampNeg = 0 := rfl
      have e : (vp_cell (E t) (n0, .inl (fun j => iI (f j)))).slots.getD ((iI 0).toNatClampNeg + i) .null = .int (iI (f ((0 + i : Nat) : Int))) := by
        show (arrV (E t) n0 (fun j => .int (iI (f j)))).slots.getD _ _ = _
        rw [e0, Array.getD_eq_getD_getElem?, arrV_read _ _ (by omega)]
        rfl
      refine ⟨?_, ?_⟩
      · rw [e]
        exact hfit _ (by omega)
      · rw [e]
        exact trivial)
    (g := F0 m pc ls (.int (iI zn) :: .int (iI 0) :: .ref (ad r1) :: .int (iI 0) :: .ref (ad r0) :: rest)) rfl (by rw [hml]) (rest := rest) rfl (by rw [hC.2.1]; exact hdg) hframes (by show 2 * 0 + _ + _ ≤ _; omega)
  have e1 : copied (vp_cell (E t) (n0, .inl (fun j => iI (f j)))) (vp_cell (E t) (n0, .inl (fun j => iI (g j)))) (iI 0) (iI 0) (iI zn) = vp_cell (E t) (n0, .inl (fun j => iI (f j))) := by
    refine (va_copied (fun z => Value.int z) (E t) (E t) (n0 := n0) (n1 := n0) (sp := (iI 0).toNatClampNeg) (dp := (iI 0).toNatClampNeg) (n := (iI zn).toNatClampNeg) (fun j => iI (f j)) (fun j => iI (g j)) (by rw [hcl]; show 0 + n0 ≤ n0; omega)).trans ?_
    rw [hcl, show (iI 0).toNatClampNeg = 0 from rfl, arrV_cpy, vp_cell_i]
  rw [e1] at X' step
  have hl : ad r1 < H.size := (Array.getElem?_eq_some_iff.mp hc1).1
  have hheap : ((T.setVm vm').setCell (ad r1) (vp_cell (E t) (n0, .inl (fun j => iI (f j))))).heap = H.setIfInBounds (ad r1) (vp_cell (E t) (n0, .inl (fun j => iI (f j)))) := by rw [← hT]; rfl
  have oq : ∀ q : Nat, q ≠ ad r1 → (H.setIfInBounds (ad r1) (vp_cell (E t) (n0, .inl (fun j => iI (f j)))))[q]? = H[q]? := fun q hq => by simp [Array.getElem?_setIfInBounds, Ne.symm hq]
  obtain ⟨t2, a1, b1⟩ := kk _ _ (hG.set hV1 (by rw [h1]; show (H.setIfInBounds (ad r1) _)[ad r1]? = some _; simp [Array.getElem?_setIfInBounds, hl]; rfl) oq h2) ⟨by simp; exact hS.1, fun q z1 z2 => by
      rw [oq q (fun e => z2 (by rw [e]; exact (hG r1 hV1).2.1))]
      exact hS.2.1 q z1 z2, fun q hq => by
      rcases List.mem_append.mp hq with h | h
      · exact hS.2.2 q h
      · obtain ⟨z, -, hz⟩ := List.mem_map.mp h
        rw [← hz]
        exact (hG r1 hV1).2.1⟩ _ hheap X'
  exact ⟨t2, step t2 a1, b1⟩
theorem cc_0 (hC : CK p m c cc s args own D E) (hml : c.maxLocals = ls.size) {index : Nat} (hlink : Cond.methodLink own index arraycopyName ∈ lw_all) (hnat : Cond.native arraycopyName ∈ lw_all) (hstat : Cond.static arraycopyName ∈ lw_all) (hini : Cond.initialized "java/lang/System" ∈ lw_all) (hG : CW D E A ad nv I F S Y L H) (hS : va_S A H0 H locs) (hframes : 1 ≤ R.frames) (hlocals : (rest.map fun v => v.category).sum + (nativeFrameWords "java/lang/System" "arraycopy" 5 + 11) ≤ R.locals) (hdg : decode cc pc = .ok (.invokestatic index, 3)) (kk : ∀ (H1 : Heap) (locs1 : List Loc), CW D E A ad nv I F S (va_up Y 25 (Y 21)) L H1 → va_S A H0 H1 locs1 → W p l e R s m args below meth c H1 locs1 cells slots Q (F0 m (pc + 3) ls rest)) : W p l e R s m args below meth c H locs cells slots Q (F0 m pc ls (.int (iI 12) :: .int (iI 0) :: .ref (ad 25) :: .int (iI 0) :: .ref (ad 21) :: rest)) := g_copy hC hml hlink hnat hstat hini hG hS 21 25 0 (Or.inl (by decide)) (Or.inl (by decide)) (n0 := 12) (f := Y 21) (g := Y 25) (cC_a (r := 21) (by decide)) (cC_a (r := 25) (by decide)) rfl rfl (fun i hi => rfl) rfl (by decide) hframes hlocals hdg (cC E ad I F S (va_up Y 25 (Y 21)) L) (cC_a (r := 25) (by decide)) (fun q _ hq => cC_Y0 hq) kk
theorem cc_1 (hC : CK p m c cc s args own D E) (hml : c.maxLocals = ls.size) {index : Nat} (hlink : Cond.methodLink own index arraycopyName ∈ lw_all) (hnat : Cond.native arraycopyName ∈ lw_all) (hstat : Cond.static arraycopyName ∈ lw_all) (hini : Cond.initialized "java/lang/System" ∈ lw_all) (hG : CW D E A ad nv I F S Y L H) (hS : va_S A H0 H locs) (hframes : 1 ≤ R.frames) (hlocals : (rest.map fun v => v.category).sum + (nativeFrameWords "java/lang/System" "arraycopy" 5 + 11) ≤ R.locals) (hdg : decode cc pc = .ok (.invokestatic index, 3)) (kk : ∀ (H1 : Heap) (locs1 : List Loc), CW D E A ad nv I F S (va_up Y 26 (Y 22)) L H1 → va_S A H0 H1 locs1 → W p l e R s m args below meth c H1 locs1 cells slots Q (F0 m (pc + 3) ls rest)) : W p l e R s m args below meth c H locs cells slots Q (F0 m pc ls (.int (iI 4) :: .int (iI 0) :: .ref (ad 26) :: .int (iI 0) :: .ref (ad 22) :: rest)) := g_copy hC hml hlink hnat hstat hini hG hS 22 26 0 (Or.inl (by decide)) (Or.inl (by decide)) (n0 := 4) (f := Y 22) (g := Y 26) (cC_a (r := 22) (by decide)) (cC_a (r := 26) (by decide)) rfl rfl (fun i hi => rfl) rfl (by decide) hframes hlocals hdg (cC E ad I F S (va_up Y 26 (Y 22)) L) (cC_a (r := 26) (by decide)) (fun q _ hq => cC_Y0 hq) kk
theorem cc_2 (hC : CK p m c cc s args own D E) (hml : c.maxLocals = ls.size) {index : Nat} (hlink : Cond.methodLink own index arraycopyName ∈ lw_all) (hnat : Cond.native arraycopyName ∈ lw_all) (hstat : Cond.static arraycopyName ∈ lw_all) (hini : Cond.initialized "java/lang/System" ∈ lw_all) (hG : CW D E A ad nv I F S Y L H) (hS : va_S A H0 H locs) (hframes : 1 ≤ R.frames) (hlocals : (rest.map fun v => v.category).sum + (nativeFrameWords "java/lang/System" "arraycopy" 5 + 11) ≤ R.locals) (hdg : decode cc pc = .ok (.invokestatic index, 3)) (kk : ∀ (H1 : Heap) (locs1 : List Loc), CW D E A ad nv I F S (va_up Y 27 (Y 23)) L H1 → va_S A H0 H1 locs1 → W p l e R s m args below meth c H1 locs1 cells slots Q (F0 m (pc + 3) ls rest)) : W p l e R s m args below meth c H locs cells slots Q (F0 m pc ls (.int (iI 6) :: .int (iI 0) :: .ref (ad 27) :: .int (iI 0) :: .ref (ad 23) :: rest)) := g_copy hC hml hlink hnat hstat hini hG hS 23 27 0 (Or.inl (by decide)) (Or.inl (by decide)) (n0 := 6) (f := Y 23) (g := Y 27) (cC_a (r := 23) (by decide)) (cC_a (r := 27) (by decide)) rfl rfl (fun i hi => rfl) rfl (by decide) hframes hlocals hdg (cC E ad I F S (va_up Y 27 (Y 23)) L) (cC_a (r := 27) (by decide)) (fun q _ hq => cC_Y0 hq) kk
theorem cc_3 (hC : CK p m c cc s args own D E) (hml : c.maxLocals = ls.size) {index : Nat} (hlink : Cond.methodLink own index arraycopyName ∈ lw_all) (hnat : Cond.native arraycopyName ∈ lw_all) (hstat : Cond.static arraycopyName ∈ lw_all) (hini : Cond.initialized "java/lang/System" ∈ lw_all) (hG : CW D E A ad nv I F S Y L H) (hS : va_S A H0 H locs) (hb01 : Bd (Y 24) 6 0 1) (hframes : 1 ≤ R.frames) (hlocals : (rest.map fun v => v.category).sum + (nativeFrameWords "java/lang/System" "arraycopy" 5 + 11) ≤ R.locals) (hdg : decode cc pc = .ok (.invokestatic index, 3)) (kk : ∀ (H1 : Heap) (locs1 : List Loc), CW D E A ad nv I F S (va_up Y 28 (Y 24)) L H1 → va_S A H0 H1 locs1 → W p l e R s m args below meth c H1 locs1 cells slots Q (F0 m (pc + 3) ls rest)) : W p l e R s m args below meth c H locs cells slots Q (F0 m pc ls (.int (iI 6) :: .int (iI 0) :: .ref (ad 28) :: .int (iI 0) :: .ref (ad 24) :: rest)) := g_copy hC hml hlink hnat hstat hini hG hS 24 28 2 (Or.inl (by decide)) (Or.inl (by decide)) (n0 := 6) (f := Y 24) (g := Y 28) (cC_a (r := 24) (by decide)) (cC_a (r := 28) (by decide)) rfl rfl (fun i hi => fit_bool (by have := hb01 i (by omega) (by omega); omega)) rfl (by decide) hframes hlocals hdg (cC E ad I F S (va_up Y 28 (Y 24)) L) (cC_a (r := 28) (by decide)) (fun q _ hq => cC_Y0 hq) kk
end CPY
theorem dX1_copy_0 : decode cX1_copy 0 = .ok (.aload_n 1, 1) := by decide +kernel
theorem dX1_copy_1 : decode cX1_copy 1 = .ok (.getfield 15, 3) := by decide +kernel
theorem dX1_copy_4 : decode cX1_copy 4 = .ok (.iconst 0, 1) := by decide +kernel
theorem dX1_copy_5 : decode cX1_copy 5 = .ok (.aload_n 0, 1) := by decide +kernel
theorem dX1_copy_6 : decode cX1_copy 6 = .ok (.getfield 15, 3) := by decide +kernel
theorem dX1_copy_9 : decode cX1_copy 9 = .ok (.iconst 0, 1) := by decide +kernel
theorem dX1_copy_10 : decode cX1_copy 10 = .ok (.bipush 12, 2) := by decide +kernel
theorem dX1_copy_12 : decode cX1_copy 12 = .ok (.invokestatic 29, 3) := by decide +kernel
theorem dX1_copy_15 : decode cX1_copy 15 = .ok (.aload_n 1, 1) := by decide +kernel
theorem dX1_copy_16 : decode cX1_copy 16 = .ok (.getfield 19, 3) := by decide +kernel
theorem dX1_copy_19 : decode cX1_copy 19 = .ok (.iconst 0, 1) := by decide +kernel
theorem dX1_copy_20 : decode cX1_copy 20 = .ok (.aload_n 0, 1) := by decide +kernel
theorem dX1_copy_21 : decode cX1_copy 21 = .ok (.getfield 19, 3) := by decide +kernel
theorem dX1_copy_24 : decode cX1_copy 24 = .ok (.iconst 0, 1) := by decide +kernel
theorem dX1_copy_25 : decode cX1_copy 25 = .ok (.iconst 4, 1) := by decide +kernel
theorem dX1_copy_26 : decode cX1_copy 26 = .ok (.invokestatic 29, 3) := by decide +kernel
theorem dX1_copy_29 : decode cX1_copy 29 = .ok (.aload_n 1, 1) := by decide +kernel
theorem dX1_copy_30 : decode cX1_copy 30 = .ok (.getfield 22, 3) := by decide +kernel
theorem dX1_copy_33 : decode cX1_copy 33 = .ok (.iconst 0, 1) := by decide +kernel
theorem dX1_copy_34 : decode cX1_copy 34 = .ok (.aload_n 0, 1) := by decide +kernel
theorem dX1_copy_35 : decode cX1_copy 35 = .ok (.getfield 22, 3) := by decide +kernel
theorem dX1_copy_38 : decode cX1_copy 38 = .ok (.iconst 0, 1) := by decide +kernel
theorem dX1_copy_39 : decode cX1_copy 39 = .ok (.bipush 6, 2) := by decide +kernel
theorem dX1_copy_41 : decode cX1_copy 41 = .ok (.invokestatic 29, 3) := by decide +kernel
theorem dX1_copy_44 : decode cX1_copy 44 = .ok (.aload_n 1, 1) := by decide +kernel
theorem dX1_copy_45 : decode cX1_copy 45 = .ok (.getfield 25, 3) := by decide +kernel
theorem dX1_copy_48 : decode cX1_copy 48 = .ok (.iconst 0, 1) := by decide +kernel
theorem dX1_copy_49 : decode cX1_copy 49 = .ok (.aload_n 0, 1) := by decide +kernel
theorem dX1_copy_50 : decode cX1_copy 50 = .ok (.getfield 25, 3) := by decide +kernel
theorem dX1_copy_53 : decode cX1_copy 53 = .ok (.iconst 0, 1) := by decide +kernel
theorem dX1_copy_54 : decode cX1_copy 54 = .ok (.bipush 6, 2) := by decide +kernel
theorem dX1_copy_56 : decode cX1_copy 56 = .ok (.invokestatic 29, 3) := by decide +kernel
theorem dX1_copy_59 : decode cX1_copy 59 = .ok (.aload_n 0, 1) := by decide +kernel
theorem dX1_copy_60 : decode cX1_copy 60 = .ok (.aload_n 1, 1) := by decide +kernel
theorem dX1_copy_61 : decode cX1_copy 61 = .ok (.getfield 35, 3) := by decide +kernel
theorem dX1_copy_64 : decode cX1_copy 64 = .ok (.putfield 35, 3) := by decide +kernel
theorem dX1_copy_67 : decode cX1_copy 67 = .ok (.aload_n 0, 1) := by decide +kernel
theorem dX1_copy_68 : decode cX1_copy 68 = .ok (.aload_n 1, 1) := by decide +kernel
theorem dX1_copy_69 : decode cX1_copy 69 = .ok (.getfield 39, 3) := by decide +kernel
theorem dX1_copy_72 : decode cX1_copy 72 = .ok (.putfield 39, 3) := by decide +kernel
theorem dX1_copy_75 : decode cX1_copy 75 = .ok (.aload_n 0, 1) := by decide +kernel
theorem dX1_copy_76 : decode cX1_copy 76 = .ok (.aload_n 1, 1) := by decide +kernel
theorem dX1_copy_77 : decode cX1_copy 77 = .ok (.getfield 42, 3) := by decide +kernel
theorem dX1_copy_80 : decode cX1_copy 80 = .ok (.putfield 42, 3) := by decide +kernel
theorem dX1_copy_83 : decode cX1_copy 83 = .ok (.aload_n 0, 1) := by decide +kernel
theorem dX1_copy_84 : decode cX1_copy 84 = .ok (.aload_n 1, 1) := by decide +kernel
theorem dX1_copy_85 : decode cX1_copy 85 = .ok (.getfield 45, 3) := by decide +kernel
theorem dX1_copy_88 : decode cX1_copy 88 = .ok (.putfield 45, 3) := by decide +kernel
theorem dX1_copy_91 : decode cX1_copy 91 = .ok (.aload_n 0, 1) := by decide +kernel
theorem dX1_copy_92 : decode cX1_copy 92 = .ok (.aload_n 1, 1) := by decide +kernel
theorem dX1_copy_93 : decode cX1_copy 93 = .ok (.getfield 48, 3) := by decide +kernel
theorem dX1_copy_96 : decode cX1_copy 96 = .ok (.putfield 48, 3) := by decide +kernel
theorem dX1_copy_99 : decode cX1_copy 99 = .ok (.aload_n 0, 1) := by decide +kernel
theorem dX1_copy_100 : decode cX1_copy 100 = .ok (.aload_n 1, 1) := by decide +kernel
theorem dX1_copy_101 : decode cX1_copy 101 = .ok (.getfield 51, 3) := by decide +kernel
theorem dX1_copy_104 : decode cX1_copy 104 = .ok (.putfield 51, 3) := by decide +kernel
theorem dX1_copy_107 : decode cX1_copy 107 = .ok (.aload_n 0, 1) := by decide +kernel
theorem dX1_copy_108 : decode cX1_copy 108 = .ok (.aload_n 0, 1) := by decide +kernel
theorem dX1_copy_109 : decode cX1_copy 109 = .ok (.getfield 35, 3) := by decide +kernel
theorem dX1_copy_112 : decode cX1_copy 112 = .ok (.invokestatic 55, 3) := by decide +kernel
theorem dX1_copy_115 : decode cX1_copy 115 = .ok (.putfield 61, 3) := by decide +kernel
theorem dX1_copy_118 : decode cX1_copy 118 = .ok (.return_, 1) := by decide +kernel
set_option maxHeartbeats 4000000 in
theorem ccopy (l : Launch) (adK adV st : Nat → Nat) (D : va_G) (E : Nat → ClassId) (A : Nat → Prop) (ad nv : Nat → Nat) (I : Nat → Int) (F : Nat → Int → Int) (S : Nat → Nat → Int) (Y : Nat → Int → Int) (L : Nat → Nat) (b28 : -80 ≤ S 19 4 ∧ S 19 4 ≤ 80) (gw0 : Bd (Y 24) 6 0 1) (bo : 0 ≤ S 19 11 ∧ S 19 11 ≤ 1) : CM l yX1_copy cX1_copy 2 none (mrm 1) adK adV st D E A ad nv [.ref (ad 20), .ref (ad 19)] I F S Y L (CQv D E A ad nv L (fun I1 F1 S1 Y1 => I = I1 ∧ F = F1 ∧ up2 (up2 (up2 (up2 (up2 (up2 (up2 S 20 4 (S 19 4)) 20 5 (S 19 5)) 20 7 (S 19 7)) 20 8 (S 19 8)) 20 9 (S 19 9)) 20 11 (S 19 11)) 20 10 (absI (S 19 4)) = S1 ∧ va_up (va_up (va_up (va_up Y 25 (Y 21)) 26 (Y 22)) 27 (Y 23)) 28 (Y 24) = Y1)) := by
  refine c_start (by decide) rfl (Nat.le_of_ble_eq_true rfl) ?_
  intro p e R s m args below meth c ls Q hR hQ hCK hml hr hlk hG hS hE hl
  have hx := hCK.1
  have hb := hCK.2.1
  have hown := hCK.2.2.1
  have hts := hCK.2.2.2.1
  have hK := hCK.2.2.2.2
  have hl : lv_has ls 2 [(0, .ref (ad 20)), (1, .ref (ad 19))] := hl
  refine lv_aload_n hx hb dX1_copy_0 rfl (lv_at hl 1 rfl) ?_
  refine cg_X1_15 hCK hG (r := 19) (Or.inl rfl) dX1_copy_1 ?_
  refine W.eq (g2 := F0 m 4 ls [.ref (ad 21)]) rfl ?_
  refine r_iconst hx hb dX1_copy_4 ?_
  refine lv_aload_n hx hb dX1_copy_5 rfl (lv_at hl 0 rfl) ?_
  refine cg_X1_15 hCK hG (r := 20) (Or.inr rfl) dX1_copy_6 ?_
  refine W.eq (g2 := F0 m 9 ls [.ref (ad 25), .int (iI 0), .ref (ad 21)]) rfl ?_
  refine r_iconst hx hb dX1_copy_9 ?_
  refine r_bipush hx hb dX1_copy_10 (by decide) ?_
  refine cc_0 hCK (hml.trans hl.1.symm) q943 q584 q583 q78 hG hS (by rw [hR]; decide) (by rw [hR]; decide) dX1_copy_12 (fun H locs hG hS => ?_)
  have hG : CW D E A ad nv I F S (va_up Y 25 (Y 21)) L H := hG
  refine lv_aload_n hx hb dX1_copy_15 rfl (lv_at hl 1 rfl) ?_
  refine cg_X1_19 hCK hG (r := 19) (Or.inl rfl) dX1_copy_16 ?_
  refine W.eq (g2 := F0 m 19 ls [.ref (ad 22)]) rfl ?_
  refine r_iconst hx hb dX1_copy_19 ?_
  refine lv_aload_n hx hb dX1_copy_20 rfl (lv_at hl 0 rfl) ?_
  refine cg_X1_19 hCK hG (r := 20) (Or.inr rfl) dX1_copy_21 ?_
  refine W.eq (g2 := F0 m 24 ls [.ref (ad 26), .int (iI 0), .ref (ad 22)]) rfl ?_
  refine r_iconst hx hb dX1_copy_24 ?_
  refine r_iconst hx hb dX1_copy_25 ?_
  refine cc_1 hCK (hml.trans hl.1.symm) q943 q584 q583 q78 hG hS (by rw [hR]; decide) (by rw [hR]; decide) dX1_copy_26 (fun H locs hG hS => ?_)
  have hG : CW D E A ad nv I F S (va_up (va_up Y 25 (Y 21)) 26 (Y 22)) L H := hG
  refine lv_aload_n hx hb dX1_copy_29 rfl (lv_at hl 1 rfl) ?_
  refine cg_X1_22 hCK hG (r := 19) (Or.inl rfl) dX1_copy_30 ?_
  refine W.eq (g2 := F0 m 33 ls [.ref (ad 23)]) rfl ?_
  refine r_iconst hx hb dX1_copy_33 ?_
  refine lv_aload_n hx hb dX1_copy_34 rfl (lv_at hl 0 rfl) ?_
  refine cg_X1_22 hCK hG (r := 20) (Or.inr rfl) dX1_copy_35 ?_
  refine W.eq (g2 := F0 m 38 ls [.ref (ad 27), .int (iI 0), .ref (ad 23)]) rfl ?_
  refine r_iconst hx hb dX1_copy_38 ?_
  refine r_bipush hx hb dX1_copy_39 (by decide) ?_
  refine cc_2 hCK (hml.trans hl.1.symm) q943 q584 q583 q78 hG hS (by rw [hR]; decide) (by rw [hR]; decide) dX1_copy_41 (fun H locs hG hS => ?_)
  have hG : CW D E A ad nv I F S (va_up (va_up (va_up Y 25 (Y 21)) 26 (Y 22)) 27 (Y 23)) L H := hG
  refine lv_aload_n hx hb dX1_copy_44 rfl (lv_at hl 1 rfl) ?_
  refine cg_X1_25 hCK hG (r := 19) (Or.inl rfl) dX1_copy_45 ?_
  refine W.eq (g2 := F0 m 48 ls [.ref (ad 24)]) rfl ?_
  refine r_iconst hx hb dX1_copy_48 ?_
  refine lv_aload_n hx hb dX1_copy_49 rfl (lv_at hl 0 rfl) ?_
  refine cg_X1_25 hCK hG (r := 20) (Or.inr rfl) dX1_copy_50 ?_
  refine W.eq (g2 := F0 m 53 ls [.ref (ad 28), .int (iI 0), .ref (ad 24)]) rfl ?_
  refine r_iconst hx hb dX1_copy_53 ?_
  refine r_bipush hx hb dX1_copy_54 (by decide) ?_
  refine cc_3 hCK (hml.trans hl.1.symm) q943 q584 q583 q78 hG hS gw0 (by rw [hR]; decide) (by rw [hR]; decide) dX1_copy_56 (fun H locs hG hS => ?_)
  have hG : CW D E A ad nv I F S (va_up (va_up (va_up (va_up Y 25 (Y 21)) 26 (Y 22)) 27 (Y 23)) 28 (Y 24)) L H := hG
  refine lv_aload_n hx hb dX1_copy_59 rfl (lv_at hl 0 rfl) ?_
  refine lv_aload_n hx hb dX1_copy_60 rfl (lv_at hl 1 rfl) ?_
  refine cg_X1_35 (v := S 19 4) hCK hG (r := 19) (Or.inl rfl) rfl dX1_copy_61 ?_
  refine cp_X1_35 (r := 20) hCK hG hS (Or.inr rfl) dX1_copy_64 (fun H locs hG hS => ?_)
  refine lv_aload_n hx hb dX1_copy_67 rfl (lv_at hl 0 rfl) ?_
  refine lv_aload_n hx hb dX1_copy_68 rfl (lv_at hl 1 rfl) ?_
  refine cg_X1_39 (v := S 19 5) hCK hG (r := 19) (Or.inl rfl) rfl dX1_copy_69 ?_
  refine cp_X1_39 (r := 20) hCK hG hS (Or.inr rfl) dX1_copy_72 (fun H locs hG hS => ?_)
  refine lv_aload_n hx hb dX1_copy_75 rfl (lv_at hl 0 rfl) ?_
  refine lv_aload_n hx hb dX1_copy_76 rfl (lv_at hl 1 rfl) ?_
  refine cg_X1_42 (v := S 19 7) hCK hG (r := 19) (Or.inl rfl) rfl dX1_copy_77 ?_
  refine cp_X1_42 (r := 20) hCK hG hS (Or.inr rfl) dX1_copy_80 (fun H locs hG hS => ?_)
  refine lv_aload_n hx hb dX1_copy_83 rfl (lv_at hl 0 rfl) ?_
  refine lv_aload_n hx hb dX1_copy_84 rfl (lv_at hl 1 rfl) ?_
  refine cg_X1_45 (v := S 19 8) hCK hG (r := 19) (Or.inl rfl) rfl dX1_copy_85 ?_
  refine cp_X1_45 (r := 20) hCK hG hS (Or.inr rfl) dX1_copy_88 (fun H locs hG hS => ?_)
  refine lv_aload_n hx hb dX1_copy_91 rfl (lv_at hl 0 rfl) ?_
  refine lv_aload_n hx hb dX1_copy_92 rfl (lv_at hl 1 rfl) ?_
  refine cg_X1_48 (v := S 19 9) hCK hG (r := 19) (Or.inl rfl) rfl dX1_copy_93 ?_
  refine cp_X1_48 (r := 20) hCK hG hS (Or.inr rfl) dX1_copy_96 (fun H locs hG hS => ?_)
  refine lv_aload_n hx hb dX1_copy_99 rfl (lv_at hl 0 rfl) ?_
  refine lv_aload_n hx hb dX1_copy_100 rfl (lv_at hl 1 rfl) ?_
  refine cg_X1_51 (v := S 19 11) hCK hG (r := 19) (Or.inl rfl) rfl dX1_copy_101 ?_
  refine cp_X1_51 (r := 20) hCK hG hS (Or.inr rfl) (by omega) dX1_copy_104 (fun H locs hG hS => ?_)
  refine lv_aload_n hx hb dX1_copy_107 rfl (lv_at hl 0 rfl) ?_
  refine lv_aload_n hx hb dX1_copy_108 rfl (lv_at hl 0 rfl) ?_
  refine cg_X1_35 (v := S 19 4) hCK hG (r := 20) (Or.inr rfl) rfl dX1_copy_109 ?_
  refine s_calli (j_runS (n := 1) (rest := [.ref (ad 20)]) (as := [.int (iI (S 19 4))]) hx hb hml hown hts ((met_abs l (S 19 4) (by omega)).jm) (fun _ _ _ _ _ => trivial) (fun _ _ _ => trivial) q909 q910 q76 q911 (by decide +kernel) ⟨rfl, rfl⟩ hR (by decide) ⟨Nat.zero_le _, Nat.zero_le _⟩ rfl hl.1 rfl (Nat.le_of_ble_eq_true rfl) dX1_copy_112) ?_
  refine cp_X1_61 (r := 20) hCK hG hS (Or.inr rfl) dX1_copy_115 (fun H locs hG hS => ?_)
  exact c_vret hCK hQ hr hlk hG hS dX1_copy_118 (⟨rfl, rfl, rfl, rfl⟩)
