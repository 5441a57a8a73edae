/-! THE MODEL's CONTRACTS: start, end, calls; static methods -/
set_option maxRecDepth 100000
abbrev MS : Type := (Nat → Int) × (Nat → Int → Int)
def MB (D : va_G) (E : Nat → ClassId) (A : Nat → Prop) (h : Nat) (ad : Nat → Nat) (u : MS) (t : State) : Prop := va_K D clAll (tyAll E) t ∧ MW D E A h ad u.1 u.2 t.heap
def MQi (D : va_G) (E : Nat → ClassId) (A : Nat → Prop) (h : Nat) (ad : Nat → Nat) (post : Int → (Nat → Int) → (Nat → Int → Int) → Prop) : Array Value → State → Outcome → State → Prop := va_Qi (S := MS) (fun r u => ∃ z, r = iI z ∧ post z u.1 u.2) (MB D E A h ad) A
def MQl (D : va_G) (E : Nat → ClassId) (A : Nat → Prop) (h : Nat) (ad : Nat → Nat) (post : Int → (Nat → Int) → (Nat → Int → Int) → Prop) : Array Value → State → Outcome → State → Prop := va_Ql (S := MS) (fun r u => ∃ z, r = iL z ∧ post z u.1 u.2) (MB D E A h ad) A
def MQv (D : va_G) (E : Nat → ClassId) (A : Nat → Prop) (h : Nat) (ad : Nat → Nat) (post : (Nat → Int) → (Nat → Int → Int) → Prop) : Array Value → State → Outcome → State → Prop := va_Qv (S := MS) (fun u => post u.1 u.2) (MB D E A h ad) A
/-- contract of a method of the Model -/
def MM (l : Launch) (y : MethodName) (bytes : ByteArray) (maxL : Nat) (ret : Option FieldType) (rm : Room) (D : va_G) (E : Nat → ClassId) (A : Nat → Prop) (h : Nat) (ad : Nat → Nat) (as : List Value) (I : Nat → Int) (F : Nat → Int → Int) (Qc : Array Value → State → Outcome → State → Prop) : Prop :=
  Met l y (ws_ y bytes maxL ret) rm (va_Pc (.ref h :: as) (MB D E A h ad (I, F))) Qc 0 0 A
/-- contract of a static method that reads no heap -/
def SM (l : Launch) (y : MethodName) (bytes : ByteArray) (maxL : Nat) (ret : Option FieldType) (rm : Room) (as : List Value) (Qc : Array Value → State → Outcome → State → Prop) : Prop :=
  Met l y (ws_ y bytes maxL ret) rm (va_Pc as (fun _ => True)) Qc 0 0 (fun _ => False)
theorem m_start {l : Launch} {y : MethodName} {cc : ByteArray} {maxL : Nat} {ret : Option FieldType} {rm : Room} {D : va_G} {E : Nat → ClassId} {A : Nat → Prop} {h : Nat} {ad : Nat → Nat} {as : List Value} {I : Nat → Int} {F : Nat → Int → Int} {Qc : Array Value → State → Outcome → State → Prop} (hy : plainName y.cls = true) (hc : y.cls = RX2) (hlen : (lg_sl (.ref h :: as)).length ≤ maxL)
    (body : ∀ (p : Program) (e : Env) (R : Room) (s : State) (m : MethodId) (args : Array Value) (below : List Frame) (meth : Method) (c : Code) (ls : Array Slot) (Q : State → Prop), R = rm → MQ below Qc args s 0 0 A = Q → MC p m c cc s args D E → c.maxLocals = maxL → meth.sig.returnType = ret → meth.locks = false → MW D E A h ad I F s.heap → va_S A s.heap s.heap [] → lv_has ls maxL (lv_args 0 (.ref h :: as)) → W p l e R s m args below meth c s.heap [] 0 0 Q (F0 m 0 ls [])) :
    MM l y cc maxL ret rm D E A h ad as I F Qc := by
  refine Met.ofW (cc := cc) (maxL := maxL) (ret := ret) hy rfl ?_
  intro p e s m args below meth c s₁ B hml hv
  obtain ⟨rfl, hK, hM⟩ := hv
  have hts := atoms_spec (ws := ws_ y cc maxL ret) B.pre
  have hts : ∀ w ∈ lw_all, w.before _ s = true := fun w h => hts w (List.mem_cons_of_mem _ h)
  have hown : s.vm.findClass y.cls = some m.cls := findClass_of_methodNamed B.named
  rw [hc] at hown
  have hl := lv_entry (.ref h :: as) (n := maxL) hlen
  rw [lg_entry_eq]
  exact body p e rm s m _ below meth c _ _ rfl rfl ⟨B.exec, B.bytes, hown, hts, hK⟩ hml B.returns B.notSynchronized hM va_S.rf hl
/-- what a static method stands on -/
def SC (p : Program) (m : MethodId) (c : Code) (cc : ByteArray) (s : State) (args : Array Value) (own : String) : Prop := p.tables.exec = Jvm.exec ∧ c.code = cc ∧ s.vm.findClass own = some m.cls ∧ ∀ w ∈ lw_all, w.before args s = true
theorem s_start {l : Launch} {y : MethodName} {cc : ByteArray} {maxL : Nat} {ret : Option FieldType} {rm : Room} {as : List Value} {Qc : Array Value → State → Outcome → State → Prop} {own : String} (hy : plainName y.cls = true) (hc : y.cls = own) (hlen : (lg_sl as).length ≤ maxL)
    (body : ∀ (p : Program) (e : Env) (R : Room) (s : State) (m : MethodId) (args : Array Value) (below : List Frame) (meth : Method) (c : Code) (ls : Array Slot) (Q : State → Prop), R = rm → MQ below Qc args s 0 0 (fun _ => False) = Q → SC p m c cc s args own → c.maxLocals = maxL → meth.sig.returnType = ret → meth.locks = false → lv_has ls maxL (lv_args 0 as) → W p l e R s m args below meth c s.heap [] 0 0 Q (F0 m 0 ls [])) :
    SM l y cc maxL ret rm as Qc := by
  refine Met.ofW (cc := cc) (maxL := maxL) (ret := ret) hy rfl ?_
  intro p e s m args below meth c s₁ B hml hv
  obtain ⟨rfl, -⟩ := hv
  have hts := atoms_spec (ws := ws_ y cc maxL ret) B.pre
  have hts : ∀ w ∈ lw_all, w.before _ s = true := fun w h => hts w (List.mem_cons_of_mem _ h)
  have hown : s.vm.findClass y.cls = some m.cls := findClass_of_methodNamed B.named
  rw [hc] at hown
  have hl := lv_entry as (n := maxL) hlen
  rw [lg_entry_eq]
  exact body p e rm s m _ below meth c _ _ rfl rfl ⟨B.exec, B.bytes, hown, hts⟩ hml B.returns B.notSynchronized hl
section MK
variable {p : Program} {l : Launch} {e : Env} {R : Room} {s : State} {m : MethodId} {args : Array Value} {below : List Frame} {meth : Method} {c : Code} {H : Heap} {locs : List Loc} {cells slots : Nat} {Q : State → Prop}
variable {cc : ByteArray} {pc : Nat} {ls : Array Slot} {rest st : List Value} {D : va_G} {E : Nat → ClassId} {A : Nat → Prop} {h : Nat} {ad : Nat → Nat} {I : Nat → Int} {F : Nat → Int → Int}
theorem m_iret (hC : MC p m c cc s args D E) {post : Int → (Nat → Int) → (Nat → Int → Int) → Prop} (hQ : MQ below (MQi D E A h ad post) args s cells slots A = Q) (hr : meth.sig.returnType = some .int) (hlk : meth.locks = false) (hM : MW D E A h ad I F H) (hS : va_S A s.heap H locs) {z : Int} (hdg : decode cc pc = .ok (.ireturn, 1)) (hp : post z I F) : W p l e R s m args below meth c H locs cells slots Q (F0 m pc ls [.int (iI z)]) := by
  subst hQ
  exact W.iret (v := iI z) hC.1 hC.2.1 hr (fun t ht hW => ⟨⟨iI z, (I, F), rfl, ⟨z, rfl, hp⟩, va_K.moved hW.alike hC.2.2.2.2, by rw [ht]; exact hM⟩, hS.F ht⟩) hS.2.2 hdg
theorem m_zret (hC : MC p m c cc s args D E) {post : Int → (Nat → Int) → (Nat → Int → Int) → Prop} (hQ : MQ below (MQi D E A h ad post) args s cells slots A = Q) (hr : meth.sig.returnType = some .boolean) (hlk : meth.locks = false) (hM : MW D E A h ad I F H) (hS : va_S A s.heap H locs) {z : Int} (hz : z = 0 ∨ z = 1) (hdg : decode cc pc = .ok (.ireturn, 1)) (hp : post z I F) : W p l e R s m args below meth c H locs cells slots Q (F0 m pc ls [.int (iI z)]) := by
  subst hQ
  exact W.zret (v := iI z) hC.1 hC.2.1 hr (nar_bool hz) (fun t ht hW => ⟨⟨iI z, (I, F), rfl, ⟨z, rfl, hp⟩, va_K.moved hW.alike hC.2.2.2.2, by rw [ht]; exact hM⟩, hS.F ht⟩) hS.2.2 hdg
theorem m_lret (hC : MC p m c cc s args D E) {post : Int → (Nat → Int) → (Nat → Int → Int) → Prop} (hQ : MQ below (MQl D E A h ad post) args s cells slots A = Q) (hr : meth.sig.returnType = some .long) (hlk : meth.locks = false) (hM : MW D E A h ad I F H) (hS : va_S A s.heap H locs) {z : Int} (hdg : decode cc pc = .ok (.lreturn, 1)) (hp : post z I F) : W p l e R s m args below meth c H locs cells slots Q (F0 m pc ls [.long (iL z)]) := by
  subst hQ
  exact W.lret (v := iL z) hC.1 hC.2.1 hr (fun t ht hW => ⟨⟨iL z, (I, F), rfl, ⟨z, rfl, hp⟩, va_K.moved hW.alike hC.2.2.2.2, by rw [ht]; exact hM⟩, hS.F ht⟩) hS.2.2 hdg
theorem m_vret (hC : MC p m c cc s args D E) {post : (Nat → Int) → (Nat → Int → Int) → Prop} (hQ : MQ below (MQv D E A h ad post) args s cells slots A = Q) (hr : meth.sig.returnType = none) (hlk : meth.locks = false) (hM : MW D E A h ad I F H) (hS : va_S A s.heap H locs) (hdg : decode cc pc = .ok (.return_, 1)) (hp : post I F) : W p l e R s m args below meth c H locs cells slots Q (F0 m pc ls []) := by
  subst hQ
  exact W.vret hC.1 hC.2.1 hr (fun t ht hW => ⟨⟨(I, F), rfl, hp, va_K.moved hW.alike hC.2.2.2.2, by rw [ht]; exact hM⟩, hS.F ht⟩) hS.2.2 hdg
theorem s_iret {own : String} (hC : SC p m c cc s args own) {z : Int} (hr : meth.sig.returnType = some .int) (hlk : meth.locks = false) {z' : Int} (hQ : MQ below (vp_Si (fun r => r = iI z')) args s cells slots (fun _ => False) = Q) (hdg : decode cc pc = .ok (.ireturn, 1)) (hp : z = z') : W p l e R s m args below meth c s.heap [] cells slots Q (F0 m pc ls [.int (iI z)]) := by
  subst hQ; subst hp
  exact W.iret (v := iI z) hC.1 hC.2.1 hr (fun t ht hW => ⟨iI z, rfl, rfl, ht⟩) (fun _ h => by cases h) hdg
theorem s_zret {own : String} (hC : SC p m c cc s args own) {z : Int} (hr : meth.sig.returnType = some .boolean) (hlk : meth.locks = false) {z' : Int} (hz : z = 0 ∨ z = 1) (hQ : MQ below (vp_Si (fun r => r = iI z')) args s cells slots (fun _ => False) = Q) (hdg : decode cc pc = .ok (.ireturn, 1)) (hp : z = z') : W p l e R s m args below meth c s.heap [] cells slots Q (F0 m pc ls [.int (iI z)]) := by
  subst hQ; subst hp
  exact W.zret (v := iI z) hC.1 hC.2.1 hr (nar_bool hz) (fun t ht hW => ⟨iI z, rfl, rfl, ht⟩) (fun _ h => by cases h) hdg
theorem s_lret {own : String} (hC : SC p m c cc s args own) {z : Int} (hr : meth.sig.returnType = some .long) (hlk : meth.locks = false) {z' : Int} (hQ : MQ below (vp_Sl (fun r => r = iL z')) args s cells slots (fun _ => False) = Q) (hdg : decode cc pc = .ok (.lreturn, 1)) (hp : z = z') : W p l e R s m args below meth c s.heap [] cells slots Q (F0 m pc ls [.long (iL z)]) := by
  subst hQ; subst hp
  exact W.lret (v := iL z) hC.1 hC.2.1 hr (fun t ht hW => ⟨iL z, rfl, rfl, ht⟩) (fun _ h => by cases h) hdg
variable {y : MethodName} {bytes : ByteArray} {maxL nL n index : Nat} {ret : Option FieldType} {rm rmc : Room} {as : List Value} {I1 : Nat → Int} {F1 : Nat → Int → Int}
theorem MB.blind {u : MS} : FrameBlind (va_Pc (.ref h :: as) (MB D E A h ad u)) := by
  intro a U g mk q
  obtain ⟨q0, q1, q2⟩ := q
  exact ⟨q0, va_K.moved (u := U) (U := U.calling g mk a) (Vm.Alike.refl U.vm) q1, q2⟩
theorem m_run (hC : MC p m c cc s args D E) (hml : c.maxLocals = nL) {Qc : Array Value → State → Outcome → State → Prop} (hMet : MM l y bytes maxL ret rm D E A h ad as I F Qc)
    (h1 : Cond.methodLink RX2 index y ∈ lw_all) (h2 : Cond.instanceMethod y ∈ lw_all) (h3 : Cond.selects RX2 y y ∈ lw_all) (h4 : Cond.initialized RX2 ∈ lw_all) (h5 : Cond.code y bytes maxL ret ∈ lw_all)
    (hd : y.cls = RX2 ∧ y.cls ≠ "java/lang/invoke/MethodHandle" ∧ y.cls ≠ "java/lang/invoke/VarHandle" ∧ (parseMethodDescriptor y.desc).map (fun d => d.parameters.length) = some n) (hrm : rm.cells = 0 ∧ rm.slots = 0) (hR : R = rmc) (hRR : rm.frames + 1 ≤ rmc.frames ∧ 8 + (maxL + 11) + rm.locals ≤ rmc.locals) (hcs : cells ≤ R.cells ∧ slots ≤ R.slots)
    (hM : MW D E A h ad I F H) (hlen : as.length = n) (hsz : ls.size = nL) (hst : st = as.reverse ++ .ref h :: rest) (hcat : (rest.map fun v => v.category).sum ≤ 8) (hdg : decode cc pc = .ok (.invokevirtual index, 3)) :
    va_Run p l e R s m args below meth c H locs cells slots 0 0 (F0 m pc ls st) rest (Qc (Value.ref h :: as).toArray) A := by
  subst hR
  exact va_runV (As := as) (rest := rest) ⟨hC.1, hC.2.1, hml, hC.2.2.1, hC.2.2.2.1⟩ hMet (cwV n hC.2.2.2.1 (lw_V h1 h2 h3 h4 h5) rfl hrm.1 hrm.2 hd hRR) ⟨MB.blind, va_recv hC.2.2.2.2 (va_P1 hM.1) (ci := 2) (q0 := 0) rfl rfl, fun U hU hW => ⟨rfl, va_K.moved hW.alike hC.2.2.2.2, by rw [hU]; exact hM⟩⟩ rfl hlen hsz hst (lv_room hcat) hdg ⟨hcs.1, hcs.2⟩
theorem m_calli {post : Int → (Nat → Int) → (Nat → Int → Int) → Prop} {a : Array Value} (hr : va_Run p l e R s m args below meth c H locs cells slots 0 0 (F0 m pc ls st) rest (MQi D E A h ad post a) A) (hS : va_S A s.heap H locs)
    (kk : ∀ (z : Int) (I1 : Nat → Int) (F1 : Nat → Int → Int) (H1 : Heap) (locs1 : List Loc), post z I1 F1 → MW D E A h ad I1 F1 H1 → va_S A s.heap H1 locs1 → W p l e R s m args below meth c H1 locs1 cells slots Q (F0 m (pc + 3) ls (.int (iI z) :: rest))) : W p l e R s m args below meth c H locs cells slots Q (F0 m pc ls st) := by
  refine va_calli hr hS (fun q _ h => h) (fun q h => h) (fun r u t H1 locs1 ht hvm hw hB hz1 hk1 hS1 => ?_)
  obtain ⟨z, rfl, hp⟩ := hw
  exact kk z u.1 u.2 H1 locs1 hp (by rw [← ht]; exact hB.2) hS1
theorem m_calll {post : Int → (Nat → Int) → (Nat → Int → Int) → Prop} {a : Array Value} (hr : va_Run p l e R s m args below meth c H locs cells slots 0 0 (F0 m pc ls st) rest (MQl D E A h ad post a) A) (hS : va_S A s.heap H locs)
    (kk : ∀ (z : Int) (I1 : Nat → Int) (F1 : Nat → Int → Int) (H1 : Heap) (locs1 : List Loc), post z I1 F1 → MW D E A h ad I1 F1 H1 → va_S A s.heap H1 locs1 → W p l e R s m args below meth c H1 locs1 cells slots Q (F0 m (pc + 3) ls (.long (iL z) :: rest))) : W p l e R s m args below meth c H locs cells slots Q (F0 m pc ls st) := by
  refine va_calll hr hS (fun q _ h => h) (fun q h => h) (fun r u t H1 locs1 ht hvm hw hB hz1 hk1 hS1 => ?_)
  obtain ⟨z, rfl, hp⟩ := hw
  exact kk z u.1 u.2 H1 locs1 hp (by rw [← ht]; exact hB.2) hS1
theorem m_callv {post : (Nat → Int) → (Nat → Int → Int) → Prop} {a : Array Value} (hr : va_Run p l e R s m args below meth c H locs cells slots 0 0 (F0 m pc ls st) rest (MQv D E A h ad post a) A) (hS : va_S A s.heap H locs)
    (kk : ∀ (I1 : Nat → Int) (F1 : Nat → Int → Int) (H1 : Heap) (locs1 : List Loc), post I1 F1 → MW D E A h ad I1 F1 H1 → va_S A s.heap H1 locs1 → W p l e R s m args below meth c H1 locs1 cells slots Q (F0 m (pc + 3) ls rest)) : W p l e R s m args below meth c H locs cells slots Q (F0 m pc ls st) := by
  refine va_callv hr hS (fun q _ h => h) (fun q h => h) (fun u t H1 locs1 ht hvm hw hB hz1 hk1 hS1 => ?_)
  exact kk u.1 u.2 H1 locs1 hw (by rw [← ht]; exact hB.2) hS1
theorem s_run {own : String} (hx : p.tables.exec = Jvm.exec) (hb : c.code = cc) (hml : c.maxLocals = nL) (hown : s.vm.findClass own = some m.cls) (hts : ∀ w ∈ lw_all, w.before args s = true) {Qc : Array Value → State → Outcome → State → Prop} (hMet : SM l y bytes maxL ret rm as Qc)
    (h1 : Cond.methodLink own index y ∈ lw_all) (h2 : Cond.static y ∈ lw_all) (h3 : Cond.initialized y.cls ∈ lw_all) (h4 : Cond.code y bytes maxL ret ∈ lw_all)
    (hd : y.cls ≠ "java/lang/invoke/MethodHandle" ∧ y.cls ≠ "java/lang/invoke/VarHandle" ∧ (parseMethodDescriptor y.desc).map (fun d => d.parameters.length) = some n) (hrm : rm.cells = 0 ∧ rm.slots = 0) (hR : R = rmc) (hRR : rm.frames + 1 ≤ rmc.frames ∧ 8 + (maxL + 11) + rm.locals ≤ rmc.locals) (hcs : cells ≤ R.cells ∧ slots ≤ R.slots)
    (hlen : as.length = n) (hsz : ls.size = nL) (hst : st = as.reverse ++ rest) (hcat : (rest.map fun v => v.category).sum ≤ 8) (hdg : decode cc pc = .ok (.invokestatic index, 3)) :
    CallRun p l e R s m args below meth c H locs cells slots 0 0 (F0 m pc ls st) rest (Qc as.toArray) (fun _ => False) := by
  subst hR
  exact W.runS (As := as) (rest := rest) ⟨hx, hb, hml, hown, hts⟩ hMet (va_cwS n hts (lw_S h1 h2 h3 h4) rfl hrm.1 hrm.2 hd hRR) ⟨fun a U g mk q => q, fun U hU hW => ⟨rfl, trivial⟩⟩ rfl hlen hsz hst (lv_room hcat) hdg ⟨hcs.1, hcs.2⟩
theorem s_calli {z : Int} {a : Array Value} (hr : CallRun p l e R s m args below meth c H locs cells slots 0 0 (F0 m pc ls st) rest (vp_Si (fun r => r = iI z) a) (fun _ => False)) (kk : W p l e R s m args below meth c H locs cells slots Q (F0 m (pc + 3) ls (.int (iI z) :: rest))) : W p l e R s m args below meth c H locs cells slots Q (F0 m pc ls st) := vp_callSi hr (fun r hr => by rw [hr]; exact kk)
theorem s_calll {z : Int} {a : Array Value} (hr : CallRun p l e R s m args below meth c H locs cells slots 0 0 (F0 m pc ls st) rest (vp_Sl (fun r => r = iL z) a) (fun _ => False)) (kk : W p l e R s m args below meth c H locs cells slots Q (F0 m (pc + 3) ls (.long (iL z) :: rest))) : W p l e R s m args below meth c H locs cells slots Q (F0 m pc ls st) := vp_callSl hr (fun r hr => by rw [hr]; exact kk)
end MK
