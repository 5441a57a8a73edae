/-! THE COMPONENT: arrays of a ship; calls -/
set_option maxRecDepth 100000
section CRR
variable {p : Program} {l : Launch} {e : Env} {R : Room} {s : State} {m : MethodId} {args : Array Value} {below : List Frame} {meth : Method} {c : Code} {H : Heap} {locs : List Loc} {cells slots : Nat} {Q : State → Prop}
variable {cc : ByteArray} {pc : Nat} {ls : Array Slot} {rest st0 : List Value} {D : va_G} {E : Nat → ClassId} {A V : Nat → Prop} {ad nv : Nat → Nat} {C : Nat → va_E} {H0 : Heap} {own : String} {adK adV st : Nat → Nat}
variable {I : Nat → Int} {F : Nat → Int → Int} {S : Nat → Nat → Int} {Y : Nat → Int → Int} {L : Nat → Nat}
theorem cC_s0 {r : Nat} (hr : r = 19 ∨ r = 20) : cC E ad I F S Y L (21 + 4 * (r - 19)) = .inl (E 0, 12, ai (Y (21 + 4 * (r - 19)))) := by
  rcases hr with rfl | rfl
  · show cC E ad I F S Y L 21 = .inl (E 0, 12, ai (Y 21))
    exact cC_a (r := 21) (by decide)
  · show cC E ad I F S Y L 25 = .inl (E 0, 12, ai (Y 25))
    exact cC_a (r := 25) (by decide)
theorem cl_s0 {z v : Int} {r : Nat} (hC : CK p m c cc s args own D E) (hG : CW D E A ad nv I F S Y L H) (hr : r = 19 ∨ r = 20) (hz : 0 ≤ z ∧ z < 12) (hv : Y (21 + 4 * (r - 19)) z = v) (hdg : decode cc pc = .ok (.iaload, 1)) (kk : W p l e R s m args below meth c H locs cells slots Q (F0 m (pc + 1) ls (.int (iI v) :: rest))) : W p l e R s m args below meth c H locs cells slots Q (F0 m pc ls (.int (iI z) :: .ref (ad (21 + 4 * (r - 19))) :: rest)) := g_ild hC hG (21 + 4 * (r - 19)) (Or.inl (by omega)) (cC_s0 hr) (by decide) hz hv hdg kk
theorem cC_s1 {r : Nat} (hr : r = 19 ∨ r = 20) : cC E ad I F S Y L (22 + 4 * (r - 19)) = .inl (E 0, 4, ai (Y (22 + 4 * (r - 19)))) := by
  rcases hr with rfl | rfl
  · show cC E ad I F S Y L 22 = .inl (E 0, 4, ai (Y 22))
    exact cC_a (r := 22) (by decide)
  · show cC E ad I F S Y L 26 = .inl (E 0, 4, ai (Y 26))
    exact cC_a (r := 26) (by decide)
theorem cl_s1 {z v : Int} {r : Nat} (hC : CK p m c cc s args own D E) (hG : CW D E A ad nv I F S Y L H) (hr : r = 19 ∨ r = 20) (hz : 0 ≤ z ∧ z < 4) (hv : Y (22 + 4 * (r - 19)) z = v) (hdg : decode cc pc = .ok (.iaload, 1)) (kk : W p l e R s m args below meth c H locs cells slots Q (F0 m (pc + 1) ls (.int (iI v) :: rest))) : W p l e R s m args below meth c H locs cells slots Q (F0 m pc ls (.int (iI z) :: .ref (ad (22 + 4 * (r - 19))) :: rest)) := g_ild hC hG (22 + 4 * (r - 19)) (Or.inl (by omega)) (cC_s1 hr) (by decide) hz hv hdg kk
theorem cC_s2 {r : Nat} (hr : r = 19 ∨ r = 20) : cC E ad I F S Y L (23 + 4 * (r - 19)) = .inl (E 0, 6, ai (Y (23 + 4 * (r - 19)))) := by
  rcases hr with rfl | rfl
  · show cC E ad I F S Y L 23 = .inl (E 0, 6, ai (Y 23))
    exact cC_a (r := 23) (by decide)
  · show cC E ad I F S Y L 27 = .inl (E 0, 6, ai (Y 27))
    exact cC_a (r := 27) (by decide)
theorem cl_s2 {z v : Int} {r : Nat} (hC : CK p m c cc s args own D E) (hG : CW D E A ad nv I F S Y L H) (hr : r = 19 ∨ r = 20) (hz : 0 ≤ z ∧ z < 6) (hv : Y (23 + 4 * (r - 19)) z = v) (hdg : decode cc pc = .ok (.iaload, 1)) (kk : W p l e R s m args below meth c H locs cells slots Q (F0 m (pc + 1) ls (.int (iI v) :: rest))) : W p l e R s m args below meth c H locs cells slots Q (F0 m pc ls (.int (iI z) :: .ref (ad (23 + 4 * (r - 19))) :: rest)) := g_ild hC hG (23 + 4 * (r - 19)) (Or.inl (by omega)) (cC_s2 hr) (by decide) hz hv hdg kk
theorem cC_s3 {r : Nat} (hr : r = 19 ∨ r = 20) : cC E ad I F S Y L (24 + 4 * (r - 19)) = .inl (E 2, 6, ai (Y (24 + 4 * (r - 19)))) := by
  rcases hr with rfl | rfl
  · show cC E ad I F S Y L 24 = .inl (E 2, 6, ai (Y 24))
    exact cC_a (r := 24) (by decide)
  · show cC E ad I F S Y L 28 = .inl (E 2, 6, ai (Y 28))
    exact cC_a (r := 28) (by decide)
theorem cl_s3 {z v : Int} {r : Nat} (hC : CK p m c cc s args own D E) (hG : CW D E A ad nv I F S Y L H) (hr : r = 19 ∨ r = 20) (hz : 0 ≤ z ∧ z < 6) (hv : Y (24 + 4 * (r - 19)) z = v) (hdg : decode cc pc = .ok (.baload, 1)) (kk : W p l e R s m args below meth c H locs cells slots Q (F0 m (pc + 1) ls (.int (iI v) :: rest))) : W p l e R s m args below meth c H locs cells slots Q (F0 m pc ls (.int (iI z) :: .ref (ad (24 + 4 * (r - 19))) :: rest)) := g_zld hC hG (24 + 4 * (r - 19)) (Or.inl (by omega)) (cC_s3 hr) (by decide) hz hv hdg kk

theorem e_sin (hx : p.tables.exec = Jvm.exec) (hb : c.code = cc) (hE : EV adK adV st A s) (hS : va_S A s.heap H locs) {z : Int} (hz : 0 ≤ z ∧ z < 16) (hdg : decode cc pc = .ok (.iaload, 1)) (kk : W p l e R s m args below meth c H locs cells slots Q (F0 m (pc + 1) ls (.int (iI (sin16 z)) :: rest))) : W p l e R s m args below meth c H locs cells slots Q (F0 m pc ls (.int (iI z) :: .ref (st 2) :: rest)) := by
  refine va_ti hx hb hE.2.2.2.1 hS (iI_in hz.1 (n := 16) hz.2 (by decide)) (v := .int (iI (sin16 z))) ?_ hdg kk
  show Value.int (iI (sin16 ((iI z).toNatClampNeg : Nat))) = _
  rw [iI_clN hz.1 (by omega)]
theorem c_cast {index ci r : Nat} {q : vw_C} {fs : List Value} (hC : CK p m c cc s args own D E) (hG : GW D A V ad C H) (hV : V r) (hc : clAll[ci]? = some q) (he : C r = .inr (ci, fs)) (hl : Cond.classLink own index q.1 ∈ lw_all) (hdg : decode cc pc = .ok (.checkcast index, 3)) (kk : W p l e R s m args below meth c H locs cells slots Q (F0 m (pc + 3) ls (.ref (ad r) :: rest))) : W p l e R s m args below meth c H locs cells slots Q (F0 m pc ls (.ref (ad r) :: rest)) := va_castS hC.1 hC.2.1 hC.2.2.1 (hC.2.2.2.1 _ hl) (hC.2.2.2.2.1 ci q hc).2 (g_rec hC.2.2.2.2 hG hV hc he) hdg kk
theorem j_runVN {C0 host : String} {b index n maxL nL : Nat} {y : MethodName} {bytes : ByteArray} {ret : Option FieldType} {rm rmc : Room} {as : List Value} {B : State → Prop} (hx : p.tables.exec = Jvm.exec) (hb : c.code = cc) (hml : c.maxLocals = nL) (hown : s.vm.findClass own = some m.cls) (hts : ∀ w ∈ lw_all, w.before args s = true) (hE : EV adK adV st A s) {Qc : Array Value → State → Outcome → State → Prop} (hMet : JM l y bytes maxL ret rm B (.ref b :: as) Qc) (hbl : ∀ a U g mk, B U → B (U.calling g mk a)) (hB : ∀ U : State, U.heap = H → s.WarmedH U.vm → B U)
    (hrec : ∃ cell : Cell, H[b]? = some cell ∧ cell.vm.isStatics = false ∧ s.vm.findClass C0 = some cell.cls)
    (h1 : Cond.methodLinkNest own index y host ∈ lw_tbl) (h2 : Cond.instanceMethod y ∈ lw_all) (h3 : Cond.selects C0 y y ∈ lw_all) (h4 : Cond.initialized y.cls ∈ lw_all) (h5 : Cond.code y bytes maxL ret ∈ lw_all)
    (hd : y.cls ≠ "java/lang/invoke/MethodHandle" ∧ y.cls ≠ "java/lang/invoke/VarHandle" ∧ (parseMethodDescriptor y.desc).map (fun d => d.parameters.length) = some n) (hrm : rm.cells = 0 ∧ rm.slots = 0) (hR : R = rmc) (hRR : rm.frames + 1 ≤ rmc.frames ∧ 8 + (maxL + 11) + rm.locals ≤ rmc.locals) (hcs : cells ≤ R.cells ∧ slots ≤ R.slots)
    (hlen : as.length = n) (hsz : ls.size = nL) (hst : st0 = as.reverse ++ .ref b :: rest) (hcat : (rest.map fun v => v.category).sum ≤ 8) (hdg : decode cc pc = .ok (.invokevirtual index, 3)) :
    CallRun p l e R s m args below meth c H locs cells slots 0 0 (F0 m pc ls st0) rest (Qc (Value.ref b :: as).toArray) (fun _ => False) := by
  subst hR
  exact (va_runVN (C := C0) (As := as) (rest := rest) ⟨hx, hb, hml, hown, hts⟩ hMet ⟨va_cnB n hts (lw_meth h5) rfl hrm.1 hrm.2 (hE.2.2.2.2.1 _ (nw_w h1 rfl)) (hts _ h4) hd hRR, hts _ h2, hts _ h3⟩ ⟨fun a U g mk q => ⟨q.1, hbl a U g mk q.2⟩, hrec, fun U hU hW => ⟨rfl, hB U hU hW⟩⟩ rfl hlen hsz hst (lv_room hcat) hdg ⟨hcs.1, hcs.2⟩).run
end CRR
