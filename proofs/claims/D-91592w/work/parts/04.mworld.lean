/-! THE MODEL's WORLD: one object of 75 fields and its arrays, over I (int and long fields by number) and F (arrays by their field's number) -/
set_option maxRecDepth 100000
def clAll : List vw_C := [(RX0, TX0, 26), (RX1, TX1, 14), (RX2, TX2, 75), (RX3, TX3, 2), (RX4, TX4, 5), (RX5, TX5, 4), (RX6, TX6, 3), (RX8, TX8, 1), (RX9, TX9, 11), (RX10, TX10, 2), (RJ2, TJ2, 3)]
def tyAll (E : Nat → ClassId) : List (ClassId × FieldType) := [(E 0, .int), (E 1, .byte), (E 2, .boolean), (E 3, .long), (E 4, .array .int), (E 5, .object "java/lang/Object"), (E 6, .object "ShipSways$Mark"), (E 7, .array (.object "ShipSways$Mark")), (E 8, .object "java/lang/String")]
/-- kind (0 int array, 1 byte array, 2 boolean array, 3 long array, 4 int, 5 long) and length, by field -/
def mK : List (Nat × Nat) := [(0, 16), (4, 0), (0, 6), (0, 60), (4, 0), (0, 12), (0, 12), (0, 12), (0, 12), (2, 12), (4, 0), (0, 4), (0, 4), (0, 4), (0, 4), (4, 0), (0, 6), (0, 6), (4, 0), (0, 8), (0, 8), (0, 8), (4, 0), (4, 0), (4, 0), (4, 0), (4, 0), (0, 24), (0, 2), (0, 2), (0, 2), (0, 2), (2, 2), (2, 12), (0, 12), (0, 8), (0, 600), (0, 600), (0, 600), (0, 600), (2, 600), (4, 0), (0, 12), (0, 12), (4, 0), (4, 0), (0, 64), (1, 300), (4, 0), (4, 0), (4, 0), (4, 0), (4, 0), (0, 600), (4, 0), (4, 0), (4, 0), (0, 300), (0, 300), (4, 0), (0, 2), (0, 2), (0, 300), (0, 300), (0, 2), (0, 2), (4, 0), (5, 0), (3, 161), (2, 161), (4, 0), (0, 7), (0, 300), (4, 0), (0, 481)]
def mty (k : Nat) : Nat := (mK.getD k (9, 0)).1
def mlen (k : Nat) : Nat := (mK.getD k (9, 0)).2
def mval (ad : Nat → Nat) (I : Nat → Int) (k : Nat) : Value := if mty k = 4 then .int (iI (I k)) else if mty k = 5 then .long (iL (I k)) else .ref (ad k)
def mfs (ad : Nat → Nat) (I : Nat → Int) : List Value := (List.range 75).map (mval ad I)
abbrev vcont : Type := (Nat → Int32) ⊕ (Nat → Int64) ⊕ (Nat → UInt32) ⊕ (Nat → UInt64) ⊕ (Nat → Option Nat)
def mcont (F : Nat → Int → Int) (k : Nat) : vcont := if mty k = 3 then .inr (.inl fun j => iL (F k j)) else .inl (fun j => iI (F k j))
theorem mlen_lt (k : Nat) : mlen k < 2147483648 := by
  by_cases h : k < 75
  · have : ∀ k, k < 75 → mlen k < 2147483648 := by decide +kernel
    exact this k h
  · unfold mlen
    rw [List.getD_eq_getElem?_getD, List.getElem?_eq_none (by show 75 ≤ k; omega)]
    decide
theorem mfs_len (ad : Nat → Nat) (I : Nat → Int) : (mfs ad I).length = 75 := by simp [mfs]
theorem mfs_get (ad : Nat → Nat) (I : Nat → Int) {k : Nat} (hk : k < 75) : (mfs ad I)[k]? = some (mval ad I k) := by simp [mfs, hk]
theorem mfs_set (ad : Nat → Nat) (I : Nat → Int) {k : Nat} (hk : k < 75) {v : Int} {w : Value} (hw : w = mval ad (va_up I k v) k) : (mfs ad I).set k w = mfs ad (va_up I k v) := by
  apply List.ext_getElem?
  intro j
  by_cases hj : j < 75
  · rw [mfs_get ad _ hj]
    by_cases hjk : j = k
    · subst hjk
      rw [List.getElem?_set_self (by rw [mfs_len]; exact hj), hw]
    · rw [List.getElem?_set_ne (Ne.symm hjk), mfs_get ad I hj]
      simp [mval, va_up, hjk]
  · rw [List.getElem?_eq_none (by rw [List.length_set, mfs_len]; omega), List.getElem?_eq_none (by rw [mfs_len]; omega)]
/-- the object and its arrays, apart, in A -/
def MW (D : va_G) (E : Nat → ClassId) (A : Nat → Prop) (h : Nat) (ad : Nat → Nat) (I : Nat → Int) (F : Nat → Int → Int) (H : Heap) : Prop :=
  va_at D clAll (h, .inr (2, mfs ad I)) H ∧ A h ∧ ∀ k, k < 75 → mty k < 4 → va_at D clAll (ad k, .inl (E (mty k), mlen k, mcont F k)) H ∧ A (ad k) ∧ ad k ≠ h ∧ ∀ j, j < 75 → mty j < 4 → ad j = ad k → j = k
theorem MW.kept {D : va_G} {E : Nat → ClassId} {A : Nat → Prop} {h : Nat} {ad : Nat → Nat} {I : Nat → Int} {F : Nat → Int → Int} {H H1 : Heap} (hM : MW D E A h ad I F H) (hk : ∀ q, A q → H1[q]? = H[q]?) : MW D E A h ad I F H1 := by
  obtain ⟨h1, h2, h3⟩ := hM
  refine ⟨h1.kept (hk _ h2), h2, fun k hk1 hk2 => ?_⟩
  obtain ⟨g1, g2, g3⟩ := h3 k hk1 hk2
  exact ⟨g1.kept (hk _ g2), g2, g3⟩
theorem MW.lt {D : va_G} {E : Nat → ClassId} {A : Nat → Prop} {h : Nat} {ad : Nat → Nat} {I : Nat → Int} {F : Nat → Int → Int} {H : Heap} (hM : MW D E A h ad I F H) : h < H.size := hM.1.lt
theorem va_P1 {D : va_G} {cl : List vw_C} {q : Nat × va_E} {H : Heap} (h : va_at D cl q H) : va_P D cl [q] H := by
  intro k r hr
  cases k with
  | zero => cases hr; exact h
  | succ k => cases hr
/-- what a method of the Model stands on -/
def MC (p : Program) (m : MethodId) (c : Code) (cc : ByteArray) (s : State) (args : Array Value) (D : va_G) (E : Nat → ClassId) : Prop := p.tables.exec = Jvm.exec ∧ c.code = cc ∧ s.vm.findClass RX2 = some m.cls ∧ (∀ w ∈ lw_all, w.before args s = true) ∧ va_K D clAll (tyAll E) s
section MR
variable {p : Program} {l : Launch} {e : Env} {R : Room} {s : State} {m : MethodId} {args : Array Value} {below : List Frame} {meth : Method} {c : Code} {H : Heap} {locs : List Loc} {cells slots : Nat} {Q : State → Prop}
variable {cc : ByteArray} {pc : Nat} {ls : Array Slot} {rest : List Value} {D : va_G} {E : Nat → ClassId} {A : Nat → Prop} {h : Nat} {ad : Nat → Nat} {I : Nat → Int} {F : Nat → Int → Int} {H0 : Heap}
theorem m_get (hC : MC p m c cc s args D E) (hM : MW D E A h ad I F H) {index : Nat} (k : Nat) (hk : k < 75) (hl : Cond.fieldLink RX2 index RX2 (TX2 k).2.1 (TX2 k).2.2.1 ∈ lw_all) (hT : (TX2 k).1 = RX2) {v : Value} (hv : mval ad I k = v) (hdg : decode cc pc = .ok (.getfield index, 3))
    (kk : W p l e R s m args below meth c H locs cells slots Q (F0 m (pc + 3) ls (v :: rest))) : W p l e R s m args below meth c H locs cells slots Q (F0 m pc ls (.ref h :: rest)) :=
  va_get (ref := RX2) (ci := 2) hC.1 hC.2.1 hC.2.2.2.1 in_X2 hC.2.2.1 hC.2.2.2.2 (va_P1 hM.1) 0 rfl rfl k hk (hC.2.2.2.1 _ hl) (fun x hxx => by rw [hT] at hxx; exact hxx) (by rw [mfs_get ad I hk, hv]) hdg kk
theorem m_put (hC : MC p m c cc s args D E) (hM : MW D E A h ad I F H) (hS0 : va_S A H0 H locs) {index : Nat} (k : Nat) (hk : k < 75) (hl : Cond.fieldLink RX2 index RX2 (TX2 k).2.1 (TX2 k).2.2.1 ∈ lw_all) (hT : (TX2 k).1 = RX2) (hfin : (TX2 k).2.2.2 = false) {v : Int} {w : Value} (hw : w = mval ad (va_up I k v) k) (hn : narrow (tyX2 k) w = w) (hfit : fits (tyX2 k) w = true) (hdg : decode cc pc = .ok (.putfield index, 3))
    (kk : ∀ (H1 : Heap) (locs1 : List Loc), MW D E A h ad (va_up I k v) F H1 → va_S A H0 H1 locs1 → W p l e R s m args below meth c H1 locs1 cells slots Q (F0 m (pc + 3) ls rest)) : W p l e R s m args below meth c H locs cells slots Q (F0 m pc ls (w :: .ref h :: rest)) := by
  obtain ⟨hx, hb, hown, hts, hK⟩ := hC
  have hap := va_apart (own := RX2) (ci := 2) hts in_X2 tyX2 tyX2_ok nmX2 hK rfl
  obtain ⟨hM1, hM2, hM3⟩ := hM
  obtain ⟨r, h1, cell, q1, q2, q3, q4⟩ := id hM1
  have hr : r = (RX2, TX2, 75) := Option.some.inj (h1.symm.trans rfl)
  subst hr
  obtain ⟨hS, hfc, kC, hkC, hkind⟩ := hK.1 2 _ rfl
  obtain ⟨cf, kf, fi, f, hi, hsl⟩ := hS k hk
  have hlay := hts _ (in_X2 _ (u_in_lay hk))
  unfold u_lay at hlay
  rw [if_neg (by rw [hfin]; decide)] at hlay
  have hst := (u_facts hfc hkC (u_lays hts in_X2 hk) hi).1
  have h6 := u_store hfc hkC hkind hlay hi (tyX2_ok k hk) hn hfit
  rw [hT] at hi
  refine W.putK hx hb (f := f) ⟨hown, hts _ hl, ⟨_, _, _, hi⟩, hst⟩ (by rw [q2]; exact h6) q1 q3 (by rw [hsl]; exact k2_hasslot (q4 k hk)) rfl rfl hdg fun H' e1 e2 e3 => ?_
  rw [hsl] at e1 ⊢
  refine kk H' _ ⟨⟨_, rfl, ?_⟩, hM2, fun j hj1 hj2 => ?_⟩ (hS0.put e2 e3 hM2)
  · rw [← mfs_set ad I hk hw]
    exact t_OB.to (V := updV (vp_V (mfs ad I)) k w) ⟨_, e1, q2, q3, t_set q4 hap hk w⟩ (fun j _ => vp_updV_set (by rw [mfs_len]; exact hk) w j)
  · obtain ⟨g1, g2, g3, g4⟩ := hM3 j hj1 hj2
    exact ⟨g1.kept (e3 _ g3), g2, g3, g4⟩
/-- a new content of one array, the rest as it was -/
theorem MW.arr (hM : MW D E A h ad I F H) {H1 : Heap} {k : Nat} (hk : k < 75) (ht : mty k < 4) {z v : Int} (oq : ∀ q : Nat, q ≠ ad k → H1[q]? = H[q]?) (he : va_at D clAll (ad k, .inl (E (mty k), mlen k, mcont (va_up F k (updZ (F k) z v)) k)) H1) : MW D E A h ad I (va_up F k (updZ (F k) z v)) H1 := by
  obtain ⟨hM1, hM2, hM3⟩ := hM
  refine ⟨hM1.kept (oq _ (Ne.symm (hM3 k hk ht).2.2.1)), hM2, fun j hj1 hj2 => ?_⟩
  by_cases hjk : j = k
  · subst hjk
    exact ⟨he, (hM3 j hj1 hj2).2⟩
  · obtain ⟨g1, g2, g3, g4⟩ := hM3 j hj1 hj2
    have hc : mcont (va_up F k (updZ (F k) z v)) j = mcont F j := by simp [mcont, va_up, hjk]
    rw [hc]
    exact ⟨g1.kept (oq _ (fun q => hjk ((hM3 k hk ht).2.2.2 j hj1 hj2 q))), g2, g3, g4⟩
theorem upd_updZ (f : Int → Int) {z v : Int} (h0 : 0 ≤ z) (hz : z ≤ 2147483647) : upd (fun j => iI (f j)) (iI z).toNatClampNeg (iI v) = fun j : Nat => iI (updZ f z v j) := by
  funext j
  rw [iI_cl ⟨by omega, hz⟩]
  by_cases hj : j = z.toNat
  · subst hj
    have : ((z.toNat : Nat) : Int) = z := by omega
    simp [upd, updZ, this]
  · have : ¬ (j : Int) = z := by omega
    simp [upd, updZ, this, hj]
theorem updV_updZ (f : Int → Int) {z v : Int} (h0 : 0 ≤ z) (hz : z ≤ 2147483647) : updV (fun j => Value.int (iI (f j))) (iI z).toNatClampNeg (.int (iI v)) = fun j : Nat => Value.int (iI (updZ f z v j)) := by
  funext j
  rw [iI_cl ⟨by omega, hz⟩]
  by_cases hj : j = z.toNat
  · subst hj
    have : ((z.toNat : Nat) : Int) = z := by omega
    simp [updV, updZ, this]
  · have : ¬ (j : Int) = z := by omega
    simp [updV, updZ, this, hj]
theorem updV_updL (f : Int → Int) {z v : Int} (h0 : 0 ≤ z) (hz : z ≤ 2147483647) : updV (fun j => Value.long (iL (f j))) (iI z).toNatClampNeg (.long (iL v)) = fun j : Nat => Value.long (iL (updZ f z v j)) := by
  funext j
  rw [iI_cl ⟨by omega, hz⟩]
  by_cases hj : j = z.toNat
  · subst hj
    have : ((z.toNat : Nat) : Int) = z := by omega
    simp [updV, updZ, this]
  · have : ¬ (j : Int) = z := by omega
    simp [updV, updZ, this, hj]
theorem m_at (hM : MW D E A h ad I F H) {k : Nat} (hk : k < 75) (t : Nat) (ht : mty k = t) (h3 : t < 3) : va_at D clAll (ad k, .inl (E t, mlen k, .inl (fun j => iI (F k j)))) H := by
  have g := (hM.2.2 k hk (by omega)).1
  have hc : mcont F k = .inl (fun j => iI (F k j)) := if_neg (by omega)
  rw [hc, ht] at g
  exact g
theorem m_atL (hM : MW D E A h ad I F H) {k : Nat} (hk : k < 75) (ht : mty k = 3) : va_at D clAll (ad k, .inl (E 3, mlen k, .inr (.inl (fun j => iL (F k j))))) H := by
  have g := (hM.2.2 k hk (by omega)).1
  have hc : mcont F k = .inr (.inl (fun j => iL (F k j))) := if_pos ht
  rw [hc, ht] at g
  exact g
theorem iI_clN {z : Int} (h0 : 0 ≤ z) (hz : z ≤ 2147483647) : (((iI z).toNatClampNeg : Nat) : Int) = z := by rw [iI_cl ⟨by omega, hz⟩]; omega
theorem m_ild (hC : MC p m c cc s args D E) (hM : MW D E A h ad I F H) (k : Nat) (hk : k < 75) (ht : mty k = 0) {z : Int} (h0 : 0 ≤ z) (h1 : z < mlen k) (hdg : decode cc pc = .ok (.iaload, 1))
    (kk : W p l e R s m args below meth c H locs cells slots Q (F0 m (pc + 1) ls (.int (iI (F k z)) :: rest))) : W p l e R s m args below meth c H locs cells slots Q (F0 m pc ls (.int (iI z) :: .ref (ad k) :: rest)) := by
  have hlt := mlen_lt k
  refine va_iald hC.1 hC.2.1 hC.2.2.2.2 (va_P1 (m_at hM hk 0 ht (by omega))) 0 0 rfl rfl (iI_in h0 h1 hlt) hdg ?_
  rw [iI_clN h0 (by omega)]
  exact kk
theorem m_bld (hC : MC p m c cc s args D E) (hM : MW D E A h ad I F H) (k : Nat) (hk : k < 75) (ht : mty k = 1) {z : Int} (h0 : 0 ≤ z) (h1 : z < mlen k) (hdg : decode cc pc = .ok (.baload, 1))
    (kk : W p l e R s m args below meth c H locs cells slots Q (F0 m (pc + 1) ls (.int (iI (F k z)) :: rest))) : W p l e R s m args below meth c H locs cells slots Q (F0 m pc ls (.int (iI z) :: .ref (ad k) :: rest)) := by
  have hlt := mlen_lt k
  refine va_bald hC.1 hC.2.1 hC.2.2.2.2 (va_P1 (m_at hM hk 1 ht (by omega))) 0 1 rfl rfl (iI_in h0 h1 hlt) hdg ?_
  rw [iI_clN h0 (by omega)]
  exact kk
theorem m_zld (hC : MC p m c cc s args D E) (hM : MW D E A h ad I F H) (k : Nat) (hk : k < 75) (ht : mty k = 2) {z : Int} (h0 : 0 ≤ z) (h1 : z < mlen k) (hdg : decode cc pc = .ok (.baload, 1))
    (kk : W p l e R s m args below meth c H locs cells slots Q (F0 m (pc + 1) ls (.int (iI (F k z)) :: rest))) : W p l e R s m args below meth c H locs cells slots Q (F0 m pc ls (.int (iI z) :: .ref (ad k) :: rest)) := by
  have hlt := mlen_lt k
  refine va_zald hC.1 hC.2.1 hC.2.2.2.2 (va_P1 (m_at hM hk 2 ht (by omega))) 0 2 rfl rfl (iI_in h0 h1 hlt) hdg ?_
  rw [iI_clN h0 (by omega)]
  exact kk
theorem m_lld (hC : MC p m c cc s args D E) (hM : MW D E A h ad I F H) (k : Nat) (hk : k < 75) (ht : mty k = 3) {z : Int} (h0 : 0 ≤ z) (h1 : z < mlen k) (hdg : decode cc pc = .ok (.laload, 1))
    (kk : W p l e R s m args below meth c H locs cells slots Q (F0 m (pc + 1) ls (.long (iL (F k z)) :: rest))) : W p l e R s m args below meth c H locs cells slots Q (F0 m pc ls (.int (iI z) :: .ref (ad k) :: rest)) := by
  have hlt := mlen_lt k
  refine va_lald hC.1 hC.2.1 hC.2.2.2.2 (va_P1 (m_atL hM hk ht)) 0 3 rfl rfl (iI_in h0 h1 hlt) hdg ?_
  rw [iI_clN h0 (by omega)]
  exact kk
theorem m_ist (hC : MC p m c cc s args D E) (hM : MW D E A h ad I F H) (hS : va_S A H0 H locs) (k : Nat) (hk : k < 75) (ht : mty k = 0) {z v : Int} (h0 : 0 ≤ z) (h1 : z < mlen k) (hdg : decode cc pc = .ok (.iastore, 1))
    (kk : ∀ (H1 : Heap) (locs1 : List Loc), MW D E A h ad I (va_up F k (updZ (F k) z v)) H1 → va_S A H0 H1 locs1 → W p l e R s m args below meth c H1 locs1 cells slots Q (F0 m (pc + 1) ls rest)) : W p l e R s m args below meth c H locs cells slots Q (F0 m pc ls (.int (iI v) :: .int (iI z) :: .ref (ad k) :: rest)) := by
  have hlt := mlen_lt k
  have g := m_at hM hk 0 ht (by omega)
  refine W.iast hC.1 hC.2.1 g ((hC.2.2.2.2.2 0 _ rfl).1 _ (fun j => .int (iI (F k j)))) (fun q => by cases q) (by show ¬ (_ ∨ (arrV _ _ _).slots.size ≤ _); rw [arrV_size]; exact iI_in h0 h1 hlt) rfl rfl hdg fun H1 e1 e2 oq => ?_
  refine kk H1 _ (hM.arr hk (by omega) oq ?_) (hS.put e2 oq (hM.2.2 k hk (by omega)).2.1)
  have hc : mcont (va_up F k (updZ (F k) z v)) k = .inl (fun j => iI (updZ (F k) z v j)) := by unfold mcont; rw [if_neg (by omega)]; simp [va_up]
  rw [hc, ht]
  show H1[ad k]? = some (vp_cell _ _)
  rw [e1, vp_cell_i, vp_cell_i, arrV_store, updV_updZ (F k) h0 (by omega)]
theorem m_lst (hC : MC p m c cc s args D E) (hM : MW D E A h ad I F H) (hS : va_S A H0 H locs) (k : Nat) (hk : k < 75) (ht : mty k = 3) {z v : Int} (h0 : 0 ≤ z) (h1 : z < mlen k) (hdg : decode cc pc = .ok (.lastore, 1))
    (kk : ∀ (H1 : Heap) (locs1 : List Loc), MW D E A h ad I (va_up F k (updZ (F k) z v)) H1 → va_S A H0 H1 locs1 → W p l e R s m args below meth c H1 locs1 cells slots Q (F0 m (pc + 1) ls rest)) : W p l e R s m args below meth c H locs cells slots Q (F0 m pc ls (.long (iL v) :: .int (iI z) :: .ref (ad k) :: rest)) := by
  have hlt := mlen_lt k
  have g := m_atL hM hk ht
  refine W.last hC.1 hC.2.1 g ((hC.2.2.2.2.2 3 _ rfl).1 _ (fun j => .long (iL (F k j)))) (fun q => by cases q) (by show ¬ (_ ∨ (arrV _ _ _).slots.size ≤ _); rw [arrV_size]; exact iI_in h0 h1 hlt) rfl rfl hdg fun H1 e1 e2 oq => ?_
  refine kk H1 _ (hM.arr hk (by omega) oq ?_) (hS.put e2 oq (hM.2.2 k hk (by omega)).2.1)
  have hc : mcont (va_up F k (updZ (F k) z v)) k = .inr (.inl (fun j => iL (updZ (F k) z v j))) := by unfold mcont; rw [if_pos ht]; simp [va_up]
  rw [hc, ht]
  show H1[ad k]? = some (vp_cell _ _)
  rw [e1, vp_cell_l, vp_cell_l, arrV_store, updV_updL (F k) h0 (by omega)]
theorem nar_byte {v : Int} (h : -128 ≤ v ∧ v ≤ 127) : narrow .byte (.int (iI v)) = .int (iI v) := by
  have h1 : narrow .byte (.int (iI v)) = .int (iI v).toInt8.toInt32 := rfl
  rw [h1, iI_b, b8_id h]
theorem nar_bool {v : Int} (h : v = 0 ∨ v = 1) : narrow .boolean (.int (iI v)) = .int (iI v) := by rcases h with rfl | rfl <;> decide +kernel
theorem m_bst (hC : MC p m c cc s args D E) (hM : MW D E A h ad I F H) (hS : va_S A H0 H locs) (k : Nat) (hk : k < 75) (ht : mty k = 1) {z v : Int} (h0 : 0 ≤ z) (h1 : z < mlen k) (hv : -128 ≤ v ∧ v ≤ 127) (hdg : decode cc pc = .ok (.bastore, 1))
    (kk : ∀ (H1 : Heap) (locs1 : List Loc), MW D E A h ad I (va_up F k (updZ (F k) z v)) H1 → va_S A H0 H1 locs1 → W p l e R s m args below meth c H1 locs1 cells slots Q (F0 m (pc + 1) ls rest)) : W p l e R s m args below meth c H locs cells slots Q (F0 m pc ls (.int (iI v) :: .int (iI z) :: .ref (ad k) :: rest)) := by
  have hlt := mlen_lt k
  have g := m_at hM hk 1 ht (by omega)
  refine W.bast hC.1 hC.2.1 g ((hC.2.2.2.2.2 1 _ rfl).1 _ (fun j => .int (iI (F k j)))) (fun q => by cases q) (by show ¬ (_ ∨ (arrV _ _ _).slots.size ≤ _); rw [arrV_size]; exact iI_in h0 h1 hlt) rfl rfl hdg fun H1 e1 e2 oq => ?_
  refine kk H1 _ (hM.arr hk (by omega) oq ?_) (hS.put e2 oq (hM.2.2 k hk (by omega)).2.1)
  have hc : mcont (va_up F k (updZ (F k) z v)) k = .inl (fun j => iI (updZ (F k) z v j)) := by unfold mcont; rw [if_neg (by omega)]; simp [va_up]
  rw [hc, ht]
  show H1[ad k]? = some (vp_cell _ _)
  rw [e1, nar_byte hv, vp_cell_i, vp_cell_i, arrV_store, updV_updZ (F k) h0 (by omega)]
theorem m_zst (hC : MC p m c cc s args D E) (hM : MW D E A h ad I F H) (hS : va_S A H0 H locs) (k : Nat) (hk : k < 75) (ht : mty k = 2) {z v : Int} (h0 : 0 ≤ z) (h1 : z < mlen k) (hv : v = 0 ∨ v = 1) (hdg : decode cc pc = .ok (.bastore, 1))
    (kk : ∀ (H1 : Heap) (locs1 : List Loc), MW D E A h ad I (va_up F k (updZ (F k) z v)) H1 → va_S A H0 H1 locs1 → W p l e R s m args below meth c H1 locs1 cells slots Q (F0 m (pc + 1) ls rest)) : W p l e R s m args below meth c H locs cells slots Q (F0 m pc ls (.int (iI v) :: .int (iI z) :: .ref (ad k) :: rest)) := by
  have hlt := mlen_lt k
  have g := m_at hM hk 2 ht (by omega)
  refine W.zast hC.1 hC.2.1 g ((hC.2.2.2.2.2 2 _ rfl).1 _ (fun j => .int (iI (F k j)))) (fun q => by cases q) (by show ¬ (_ ∨ (arrV _ _ _).slots.size ≤ _); rw [arrV_size]; exact iI_in h0 h1 hlt) rfl rfl hdg fun H1 e1 e2 oq => ?_
  refine kk H1 _ (hM.arr hk (by omega) oq ?_) (hS.put e2 oq (hM.2.2 k hk (by omega)).2.1)
  have hc : mcont (va_up F k (updZ (F k) z v)) k = .inl (fun j => iI (updZ (F k) z v j)) := by unfold mcont; rw [if_neg (by omega)]; simp [va_up]
  rw [hc, ht]
  show H1[ad k]? = some (vp_cell _ _)
  rw [e1, nar_bool hv, vp_cell_i, vp_cell_i, arrV_store, updV_updZ (F k) h0 (by omega)]
end MR
