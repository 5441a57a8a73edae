/-! THE COMPONENT: arrays -/
set_option maxRecDepth 100000
section CRR
variable {p : Program} {l : Launch} {e : Env} {R : Room} {s : State} {m : MethodId} {args : Array Value} {below : List Frame} {meth : Method} {c : Code} {H : Heap} {locs : List Loc} {cells slots : Nat} {Q : State → Prop}
variable {cc : ByteArray} {pc : Nat} {ls : Array Slot} {rest st0 : List Value} {D : va_G} {E : Nat → ClassId} {A V : Nat → Prop} {ad nv : Nat → Nat} {C : Nat → va_E} {H0 : Heap} {own : String} {adK adV st : Nat → Nat}
variable {I : Nat → Int} {F : Nat → Int → Int} {S : Nat → Nat → Int} {Y : Nat → Int → Int} {L : Nat → Nat}
theorem cC_h {k : Int} (h : 0 ≤ k ∧ k < 100) : cC E ad I F S Y L (3100 + k.toNat) = .inl (E 0, 10, ai (fun j => F 3 (10 * k + j))) := by
  rw [cC_a (by omega)]
  have e1 : aK (3100 + k.toNat) = (0, 10) := by
    unfold aK
    repeat rw [if_neg (by omega)]
  have e2 : aY F Y (3100 + k.toNat) = fun j => F 3 (10 * k + j) := by
    unfold aY
    rw [if_neg (by omega), if_neg (by omega), if_neg (by omega), if_neg (by omega), if_neg (by omega), if_neg (by omega), if_pos (by omega)]
    rw [show ((3100 + k.toNat - 3100 : Nat) : Int) = k by omega]
  rw [e1, e2]
theorem cC_kp {k : Int} (h : 0 ≤ k ∧ k < 600) : cC E ad I F S Y L (1000 + k.toNat) = .inl (E 0, 5, ai (Y (1000 + k.toNat))) := by
  rw [cC_a (by omega)]
  have e1 : aK (1000 + k.toNat) = (0, 5) := by
    unfold aK
    repeat rw [if_neg (by omega)]
    rw [if_pos (by omega)]
  have e2 : aY F Y (1000 + k.toNat) = Y (1000 + k.toNat) := by
    unfold aY
    repeat rw [if_neg (by omega)]
  rw [e1, e2]
theorem cC_qf {k : Int} (h : 0 ≤ k ∧ k < 13) : cC E ad I F S Y L (2000 + k.toNat) = .inl (E 0, 37, ai (Y (2000 + k.toNat))) := by
  rw [cC_a (by omega)]
  have e1 : aK (2000 + k.toNat) = (0, 37) := by
    unfold aK
    repeat rw [if_neg (by omega)]
    rw [if_pos (by omega)]
  have e2 : aY F Y (2000 + k.toNat) = Y (2000 + k.toNat) := by
    unfold aY
    repeat rw [if_neg (by omega)]
  rw [e1, e2]
theorem cl_hal {z v : Int} {k : Int} (hC : CK p m c cc s args own D E) (hG : CW D E A ad nv I F S Y L H) (hk : 0 ≤ k ∧ k < ((nv 0 : Nat) : Int) ∧ k < 100) (hz : 0 ≤ z ∧ z < 10) (hv : F 3 (10 * k + z) = v) (hdg : decode cc pc = .ok (.iaload, 1)) (kk : W p l e R s m args below meth c H locs cells slots Q (F0 m (pc + 1) ls (.int (iI v) :: rest))) : W p l e R s m args below meth c H locs cells slots Q (F0 m pc ls (.int (iI z) :: .ref (ad (3100 + k.toNat)) :: rest)) := g_ild hC hG (3100 + k.toNat) (by unfold cV; omega) (cC_h (by omega)) (by decide) hz hv hdg kk
theorem cl_kp {z v : Int} {k : Int} (hC : CK p m c cc s args own D E) (hG : CW D E A ad nv I F S Y L H) (hk : 0 ≤ k ∧ k < 600) (hz : 0 ≤ z ∧ z < 5) (hv : Y (1000 + k.toNat) z = v) (hdg : decode cc pc = .ok (.iaload, 1)) (kk : W p l e R s m args below meth c H locs cells slots Q (F0 m (pc + 1) ls (.int (iI v) :: rest))) : W p l e R s m args below meth c H locs cells slots Q (F0 m pc ls (.int (iI z) :: .ref (ad (1000 + k.toNat)) :: rest)) := g_ild hC hG (1000 + k.toNat) (by unfold cV; omega) (cC_kp (by omega)) (by decide) hz hv hdg kk
theorem cl_qf {z v : Int} {k : Int} (hC : CK p m c cc s args own D E) (hG : CW D E A ad nv I F S Y L H) (hk : 0 ≤ k ∧ k < 13) (hz : 0 ≤ z ∧ z < 37) (hv : Y (2000 + k.toNat) z = v) (hdg : decode cc pc = .ok (.iaload, 1)) (kk : W p l e R s m args below meth c H locs cells slots Q (F0 m (pc + 1) ls (.int (iI v) :: rest))) : W p l e R s m args below meth c H locs cells slots Q (F0 m pc ls (.int (iI z) :: .ref (ad (2000 + k.toNat)) :: rest)) := g_ild hC hG (2000 + k.toNat) (by unfold cV; omega) (cC_qf (by omega)) (by decide) hz hv hdg kk
theorem cl_9 {z : Int} (hC : CK p m c cc s args own D E) (hG : CW D E A ad nv I F S Y L H) (hz : 0 ≤ z ∧ z < 600) (hdg : decode cc pc = .ok (.aaload, 1)) (kk : W p l e R s m args below meth c H locs cells slots Q (F0 m (pc + 1) ls (.ref (ad (1000 + z.toNat)) :: rest))) : W p l e R s m args below meth c H locs cells slots Q (F0 m pc ls (.int (iI z) :: .ref (ad 9) :: rest)) := g_aldA hC hG 9 (by unfold cV; omega) cC_9 (t := 4) rfl (by decide) hz rfl hdg kk
theorem cl_10 {z : Int} (hC : CK p m c cc s args own D E) (hG : CW D E A ad nv I F S Y L H) (hz : 0 ≤ z ∧ z < 13) (hdg : decode cc pc = .ok (.aaload, 1)) (kk : W p l e R s m args below meth c H locs cells slots Q (F0 m (pc + 1) ls (.ref (ad (2000 + z.toNat)) :: rest))) : W p l e R s m args below meth c H locs cells slots Q (F0 m pc ls (.int (iI z) :: .ref (ad 10) :: rest)) := g_aldA hC hG 10 (by unfold cV; omega) cC_10 (t := 4) rfl (by decide) hz rfl hdg kk
theorem cl_1 {z v : Int} (hC : CK p m c cc s args own D E) (hG : CW D E A ad nv I F S Y L H) (hz : 0 ≤ z ∧ z < 300) (hv : F 47 z = v) (hdg : decode cc pc = .ok (.baload, 1)) (kk : W p l e R s m args below meth c H locs cells slots Q (F0 m (pc + 1) ls (.int (iI v) :: rest))) : W p l e R s m args below meth c H locs cells slots Q (F0 m pc ls (.int (iI z) :: .ref (ad 1) :: rest)) := g_bld hC hG 1 (Or.inl (by omega)) (n := 300) (f := F 47) rfl (by decide) hz hv hdg kk
theorem cl_2 {z v : Int} (hC : CK p m c cc s args own D E) (hG : CW D E A ad nv I F S Y L H) (hz : 0 ≤ z ∧ z < 48) (hv : Y 2 z = v) (hdg : decode cc pc = .ok (.iaload, 1)) (kk : W p l e R s m args below meth c H locs cells slots Q (F0 m (pc + 1) ls (.int (iI v) :: rest))) : W p l e R s m args below meth c H locs cells slots Q (F0 m pc ls (.int (iI z) :: .ref (ad 2) :: rest)) := g_ild hC hG 2 (Or.inl (by omega)) (n := 48) (f := Y 2) rfl (by decide) hz hv hdg kk
theorem cl_3 {z v : Int} (hC : CK p m c cc s args own D E) (hG : CW D E A ad nv I F S Y L H) (hz : 0 ≤ z ∧ z < 7) (hv : Y 3 z = v) (hdg : decode cc pc = .ok (.iaload, 1)) (kk : W p l e R s m args below meth c H locs cells slots Q (F0 m (pc + 1) ls (.int (iI v) :: rest))) : W p l e R s m args below meth c H locs cells slots Q (F0 m pc ls (.int (iI z) :: .ref (ad 3) :: rest)) := g_ild hC hG 3 (Or.inl (by omega)) (n := 7) (f := Y 3) rfl (by decide) hz hv hdg kk
theorem cl_4 {z v : Int} (hC : CK p m c cc s args own D E) (hG : CW D E A ad nv I F S Y L H) (hz : 0 ≤ z ∧ z < 6) (hv : F 16 z = v) (hdg : decode cc pc = .ok (.iaload, 1)) (kk : W p l e R s m args below meth c H locs cells slots Q (F0 m (pc + 1) ls (.int (iI v) :: rest))) : W p l e R s m args below meth c H locs cells slots Q (F0 m pc ls (.int (iI z) :: .ref (ad 4) :: rest)) := g_ild hC hG 4 (Or.inl (by omega)) (n := 6) (f := F 16) rfl (by decide) hz hv hdg kk
theorem cl_5 {z v : Int} (hC : CK p m c cc s args own D E) (hG : CW D E A ad nv I F S Y L H) (hz : 0 ≤ z ∧ z < 6) (hv : F 17 z = v) (hdg : decode cc pc = .ok (.iaload, 1)) (kk : W p l e R s m args below meth c H locs cells slots Q (F0 m (pc + 1) ls (.int (iI v) :: rest))) : W p l e R s m args below meth c H locs cells slots Q (F0 m pc ls (.int (iI z) :: .ref (ad 5) :: rest)) := g_ild hC hG 5 (Or.inl (by omega)) (n := 6) (f := F 17) rfl (by decide) hz hv hdg kk
theorem cl_6 {z v : Int} (hC : CK p m c cc s args own D E) (hG : CW D E A ad nv I F S Y L H) (hz : 0 ≤ z ∧ z < 12) (hv : F 42 z = v) (hdg : decode cc pc = .ok (.iaload, 1)) (kk : W p l e R s m args below meth c H locs cells slots Q (F0 m (pc + 1) ls (.int (iI v) :: rest))) : W p l e R s m args below meth c H locs cells slots Q (F0 m pc ls (.int (iI z) :: .ref (ad 6) :: rest)) := g_ild hC hG 6 (Or.inl (by omega)) (n := 12) (f := F 42) rfl (by decide) hz hv hdg kk
theorem cl_7 {z v : Int} (hC : CK p m c cc s args own D E) (hG : CW D E A ad nv I F S Y L H) (hz : 0 ≤ z ∧ z < 12) (hv : F 43 z = v) (hdg : decode cc pc = .ok (.iaload, 1)) (kk : W p l e R s m args below meth c H locs cells slots Q (F0 m (pc + 1) ls (.int (iI v) :: rest))) : W p l e R s m args below meth c H locs cells slots Q (F0 m pc ls (.int (iI z) :: .ref (ad 7) :: rest)) := g_ild hC hG 7 (Or.inl (by omega)) (n := 12) (f := F 43) rfl (by decide) hz hv hdg kk
theorem cl_8 {z v : Int} (hC : CK p m c cc s args own D E) (hG : CW D E A ad nv I F S Y L H) (hz : 0 ≤ z ∧ z < 64) (hv : F 46 z = v) (hdg : decode cc pc = .ok (.iaload, 1)) (kk : W p l e R s m args below meth c H locs cells slots Q (F0 m (pc + 1) ls (.int (iI v) :: rest))) : W p l e R s m args below meth c H locs cells slots Q (F0 m pc ls (.int (iI z) :: .ref (ad 8) :: rest)) := g_ild hC hG 8 (Or.inl (by omega)) (n := 64) (f := F 46) rfl (by decide) hz hv hdg kk
end CRR
