/-! CELLS BY ROLES: rows that make cells; methods that make cells -/
set_option maxRecDepth 100000
def amr (d mc ms : Nat) : Room := { frames := d + 1, cells := mc, slots := ms, locals := 60 * (d + 1) }
def AB (adK adV st : Nat → Nat) (D : va_G) (E : Nat → ClassId) (A V : Nat → Prop) (ad : Nat → Nat) (C : Nat → va_E) (U : State) : Prop := GB adK adV st D E A V ad C U ∧ ∀ q, U.heap.size ≤ q → A q
abbrev ASt : Type := (Nat → Nat) × (Nat → Prop) × (Nat → va_E)
def ABk (D : va_G) (E : Nat → ClassId) (A : Nat → Prop) (u : ASt) (t : State) : Prop := va_K D clAll (tyAll E) t ∧ GW D A u.2.1 u.1 u.2.2 t.heap
def AQi (D : va_G) (E : Nat → ClassId) (A : Nat → Prop) (post : Int → (Nat → Nat) → (Nat → Prop) → (Nat → va_E) → Prop) : Array Value → State → Outcome → State → Prop := va_Qi (S := ASt) (fun r u => ∃ z, r = iI z ∧ post z u.1 u.2.1 u.2.2) (ABk D E A) A
def AQv (D : va_G) (E : Nat → ClassId) (A : Nat → Prop) (post : (Nat → Nat) → (Nat → Prop) → (Nat → va_E) → Prop) : Array Value → State → Outcome → State → Prop := va_Qv (S := ASt) (fun u => post u.1 u.2.1 u.2.2) (ABk D E A) A
/-- an answer that is a reference or null -/
def AQw (D : va_G) (E : Nat → ClassId) (A : Nat → Prop) (post : Value → (Nat → Nat) → (Nat → Prop) → (Nat → va_E) → Prop) : Array Value → State → Outcome → State → Prop := fun _ st oc t => (∃ (v : Value) (u : ASt), oc = .returned (some v) ∧ post v u.1 u.2.1 u.2.2 ∧ ABk D E A u t) ∧ va_F A st t
def AM (l : Launch) (y : MethodName) (bytes : ByteArray) (maxL : Nat) (ret : Option FieldType) (rm : Room) (adK adV st : Nat → Nat) (D : va_G) (E : Nat → ClassId) (A : Nat → Prop) (as : List Value) (V : Nat → Prop) (ad : Nat → Nat) (C : Nat → va_E) (Qc : Array Value → State → Outcome → State → Prop) (mc ms : Nat) : Prop :=
  Met l y (ws_ y bytes maxL ret) rm (va_Pc as (AB adK adV st D E A V ad C)) Qc mc ms A
theorem a_start {l : Launch} {y : MethodName} {cc : ByteArray} {maxL : Nat} {ret : Option FieldType} {rm : Room} {adK adV st : Nat → Nat} {D : va_G} {E : Nat → ClassId} {A : Nat → Prop} {as : List Value} {V : Nat → Prop} {ad : Nat → Nat} {C : Nat → va_E} {Qc : Array Value → State → Outcome → State → Prop} {mc ms : Nat} {own : String} (hy : plainName y.cls = true) (hc : y.cls = own) (hlen : (lg_sl as).length ≤ maxL)
    (body : ∀ (p : Program) (e : Env) (R : Room) (s : State) (m : MethodId) (args : Array Value) (below : List Frame) (meth : Method) (c : Code) (ls : Array Slot) (Q : State → Prop), R = rm → MQ below Qc args s mc ms A = Q → CK p m c cc s args own D E → c.maxLocals = maxL → meth.sig.returnType = ret → meth.locks = false → meth.name = y.name → GW D A V ad C s.heap → va_S A s.heap s.heap [] → EV adK adV st A s → (∀ q, s.heap.size ≤ q → A q) → lv_has ls maxL (lv_args 0 as) → W p l e R s m args below meth c s.heap [] 0 0 Q (F0 m 0 ls [])) :
    AM l y cc maxL ret rm adK adV st D E A as V ad C Qc mc ms := by
  refine Met.ofW (cc := cc) (maxL := maxL) (ret := ret) hy rfl ?_
  intro p e s m args below meth c s₁ B hml hv
  obtain ⟨rfl, ⟨hK, hG, hE⟩, hA⟩ := hv
  have hts := atoms_spec (ws := ws_ y cc maxL ret) B.pre
  have hts : ∀ w ∈ lw_all, w.before _ s = true := fun w h => hts w (List.mem_cons_of_mem _ h)
  have hown : s.vm.findClass y.cls = some m.cls := findClass_of_methodNamed B.named
  rw [hc] at hown
  have hl := lv_entry as (n := maxL) hlen
  rw [lg_entry_eq]
  exact body p e rm s m _ below meth c _ _ rfl rfl ⟨B.exec, B.bytes, hown, hts, hK⟩ hml B.returns B.notSynchronized (name_of_methodNamed B.named B.method).1 hG va_S.rf hE hA hl
theorem iI_nn {z : Int} (h0 : 0 ≤ z) (h1 : z ≤ 2147483647) : ¬ iI z < 0 := by
  intro h
  have h2 := Int32.lt_iff_toInt_lt.mp h
  rw [iI_toInt ⟨by omega, h1⟩] at h2
  have h3 : (0 : Int32).toInt = 0 := rfl
  omega
section AL
variable {p : Program} {l : Launch} {e : Env} {R : Room} {s : State} {m : MethodId} {args : Array Value} {below : List Frame} {meth : Method} {c : Code} {H : Heap} {locs : List Loc} {cells slots : Nat} {Q : State → Prop}
variable {cc : ByteArray} {pc : Nat} {ls : Array Slot} {rest st0 : List Value} {D : va_G} {E : Nat → ClassId} {A V : Nat → Prop} {ad : Nat → Nat} {C : Nat → va_E} {H0 : Heap} {own : String} {adK adV st : Nat → Nat}
variable {y : MethodName} {bytes : ByteArray} {maxL nL n index b mc ms a r : Nat} {ret : Option FieldType} {rm rmc : Room} {as : List Value} {C0 : String}
theorem GW.lt (hG : GW D A V ad C H) {q : Nat} (hq : V q) : ad q < H.size := (hG q hq).1.lt
/-! results -/
theorem a_vret (hC : CK p m c cc s args own D E) {post : (Nat → Nat) → (Nat → Prop) → (Nat → va_E) → Prop} (hQ : MQ below (AQv D E A post) args s mc ms A = Q) (hr : meth.sig.returnType = none) (hlk : meth.locks = false) (hG : GW D A V ad C H) (hS : va_S A s.heap H locs) (h1 : cells ≤ mc) (h2 : slots ≤ ms) (hdg : decode cc pc = .ok (.return_, 1)) (hp : post ad V C) : W p l e R s m args below meth c H locs cells slots Q (F0 m pc ls []) := by
  subst hQ
  exact W.widen h1 h2 (W.vret hC.1 hC.2.1 hr (fun t ht hW => ⟨⟨(ad, V, C), rfl, hp, va_K.moved hW.alike hC.2.2.2.2, by rw [ht]; exact hG⟩, hS.F ht⟩) hS.2.2 hdg)
theorem a_iret (hC : CK p m c cc s args own D E) {post : Int → (Nat → Nat) → (Nat → Prop) → (Nat → va_E) → Prop} (hQ : MQ below (AQi D E A post) args s mc ms A = Q) (hr : meth.sig.returnType = some .int) (hlk : meth.locks = false) (hG : GW D A V ad C H) (hS : va_S A s.heap H locs) (h1 : cells ≤ mc) (h2 : slots ≤ ms) {z : Int} (hdg : decode cc pc = .ok (.ireturn, 1)) (hp : post z ad V C) : W p l e R s m args below meth c H locs cells slots Q (F0 m pc ls [.int (iI z)]) := by
  subst hQ
  exact W.widen h1 h2 (W.iret (v := iI z) hC.1 hC.2.1 hr (fun t ht hW => ⟨⟨iI z, (ad, V, C), rfl, ⟨z, rfl, hp⟩, va_K.moved hW.alike hC.2.2.2.2, by rw [ht]; exact hG⟩, hS.F ht⟩) hS.2.2 hdg)
theorem a_zret (hC : CK p m c cc s args own D E) {post : Int → (Nat → Nat) → (Nat → Prop) → (Nat → va_E) → Prop} (hQ : MQ below (AQi D E A post) args s mc ms A = Q) (hr : meth.sig.returnType = some .boolean) (hlk : meth.locks = false) (hG : GW D A V ad C H) (hS : va_S A s.heap H locs) (h1 : cells ≤ mc) (h2 : slots ≤ ms) {z : Int} (hz : z = 0 ∨ z = 1) (hdg : decode cc pc = .ok (.ireturn, 1)) (hp : post z ad V C) : W p l e R s m args below meth c H locs cells slots Q (F0 m pc ls [.int (iI z)]) := by
  subst hQ
  exact W.widen h1 h2 (W.zret (v := iI z) hC.1 hC.2.1 hr (nar_bool hz) (fun t ht hW => ⟨⟨iI z, (ad, V, C), rfl, ⟨z, rfl, hp⟩, va_K.moved hW.alike hC.2.2.2.2, by rw [ht]; exact hG⟩, hS.F ht⟩) hS.2.2 hdg)
theorem a_wret (hC : CK p m c cc s args own D E) {post : Value → (Nat → Nat) → (Nat → Prop) → (Nat → va_E) → Prop} (hQ : MQ below (AQw D E A post) args s mc ms A = Q) {rt : FieldType} (hr : meth.sig.returnType = some rt) (hrt : (∃ n, rt = .object n) ∨ ∃ t, rt = .array t) (hlk : meth.locks = false) (hG : GW D A V ad C H) (hS : va_S A s.heap H locs) (h1 : cells ≤ mc) (h2 : slots ≤ ms) {v : Value} (hv : v = .null ∨ ∃ a, v = .ref a) (hdg : decode cc pc = .ok (.areturn, 1)) (hp : post v ad V C) : W p l e R s m args below meth c H locs cells slots Q (F0 m pc ls [v]) := by
  subst hQ
  exact W.widen h1 h2 (W.aret hC.1 hC.2.1 hr hrt hv (fun t ht hW => ⟨⟨v, (ad, V, C), rfl, hp, va_K.moved hW.alike hC.2.2.2.2, by rw [ht]; exact hG⟩, hS.F ht⟩) hS.2.2 hdg)
/-! calls -/
theorem AB.at (hK : va_K D clAll (tyAll E) s) (hG : GW D A V ad C H) (hE : EV adK adV st A s) (hS : va_S A s.heap H locs) (hA : ∀ q, s.heap.size ≤ q → A q) : ∀ U : State, U.heap = H → s.WarmedH U.vm → AB adK adV st D E A V ad C U := fun U hU hW => ⟨GB.at hK hG hE hS U hU hW, fun q hq => hA q (Nat.le_trans hS.1 (by rw [← hU]; exact hq))⟩
theorem AB.blind (x : Array Value) (U : State) (g : JFrame) (mk : MethodId) (h : AB adK adV st D E A V ad C U) : AB adK adV st D E A V ad C (U.calling g mk x) := ⟨GB.blind x U g mk h.1, h.2⟩
theorem a_runV (hC : CK p m c cc s args own D E) (hE : EV adK adV st A s) (hA : ∀ q, s.heap.size ≤ q → A q) (hml : c.maxLocals = nL) {Qc : Array Value → State → Outcome → State → Prop} (hMet : AM l y bytes maxL ret rm adK adV st D E A (.ref b :: as) V ad C Qc mc ms)
    (hrec : ∃ cell : Cell, H[b]? = some cell ∧ cell.vm.isStatics = false ∧ s.vm.findClass C0 = some cell.cls)
    (h1 : Cond.methodLink own index y ∈ lw_all) (h2 : Cond.instanceMethod y ∈ lw_all) (h3 : Cond.selects C0 y y ∈ lw_all) (h4 : Cond.initialized C0 ∈ lw_all) (h5 : Cond.code y bytes maxL ret ∈ lw_all)
    (hd : y.cls = C0 ∧ y.cls ≠ "java/lang/invoke/MethodHandle" ∧ y.cls ≠ "java/lang/invoke/VarHandle" ∧ (parseMethodDescriptor y.desc).map (fun d => d.parameters.length) = some n) (hrm : rm.cells = mc ∧ rm.slots = ms) (hR : R = rmc) (hRR : rm.frames + 1 ≤ rmc.frames ∧ 8 + (maxL + 11) + rm.locals ≤ rmc.locals) (hcs : cells + mc ≤ R.cells ∧ slots + ms ≤ R.slots)
    (hG : GW D A V ad C H) (hS : va_S A s.heap H locs) (hlen : as.length = n) (hsz : ls.size = nL) (hst : st0 = as.reverse ++ .ref b :: rest) (hcat : (rest.map fun v => v.category).sum ≤ 8) (hdg : decode cc pc = .ok (.invokevirtual index, 3)) :
    va_Run p l e R s m args below meth c H locs cells slots mc ms (F0 m pc ls st0) rest (Qc (Value.ref b :: as).toArray) A := by
  subst hR
  exact va_runV (C := C0) (As := as) (rest := rest) ⟨hC.1, hC.2.1, hml, hC.2.2.1, hC.2.2.2.1⟩ hMet (cwV n hC.2.2.2.1 (lw_V h1 h2 h3 h4 h5) rfl hrm.1 hrm.2 hd hRR) ⟨fun a U g mk q => ⟨q.1, AB.blind a U g mk q.2⟩, hrec, fun U hU hW => ⟨rfl, AB.at hC.2.2.2.2 hG hE hS hA U hU hW⟩⟩ rfl hlen hsz hst (lv_room hcat) hdg hcs
theorem a_runI (hC : CK p m c cc s args own D E) (hE : EV adK adV st A s) (hA : ∀ q, s.heap.size ≤ q → A q) (hml : c.maxLocals = nL) {Qc : Array Value → State → Outcome → State → Prop} (hMet : AM l y bytes maxL none rm adK adV st D E A (.ref b :: as) V ad C Qc mc ms)
    (h1 : Cond.methodLink own index y ∈ lw_all) (h2 : Cond.instanceMethod y ∈ lw_all) (h4 : Cond.initialized y.cls ∈ lw_all) (h5 : Cond.code y bytes maxL none ∈ lw_all) (hy1 : y.name = "<init>")
    (hd : y.cls ≠ "java/lang/invoke/MethodHandle" ∧ y.cls ≠ "java/lang/invoke/VarHandle" ∧ (parseMethodDescriptor y.desc).map (fun d => d.parameters.length) = some n) (hrm : rm.cells = mc ∧ rm.slots = ms) (hR : R = rmc) (hRR : rm.frames + 1 ≤ rmc.frames ∧ 8 + (maxL + 11) + rm.locals ≤ rmc.locals) (hcs : cells + mc ≤ R.cells ∧ slots + ms ≤ R.slots)
    (hG : GW D A V ad C H) (hS : va_S A s.heap H locs) (hlen : as.length = n) (hsz : ls.size = nL) (hst : st0 = as.reverse ++ .ref b :: rest) (hcat : (rest.map fun v => v.category).sum ≤ 8) (hdg : decode cc pc = .ok (.invokespecial index, 3)) :
    va_Run p l e R s m args below meth c H locs cells slots mc ms (F0 m pc ls st0) rest (Qc (Value.ref b :: as).toArray) A := by
  subst hR
  exact va_runI (As := as) (rest := rest) ⟨hC.1, hC.2.1, hml, hC.2.2.1, hC.2.2.2.1⟩ hMet (cwI n hC.2.2.2.1 (lw_meth h5) rfl hrm.1 hrm.2 (hC.2.2.2.1 _ h4) (hC.2.2.2.1 _ h1) (hC.2.2.2.1 _ h2) hy1 hd hRR) ⟨fun a U g mk q => ⟨q.1, AB.blind a U g mk q.2⟩, fun U hU hW => ⟨rfl, AB.at hC.2.2.2.2 hG hE hS hA U hU hW⟩⟩ rfl hlen hsz hst (lv_room hcat) hdg hcs
theorem a_runIN {host : String} (hC : CK p m c cc s args own D E) (hE : EV adK adV st A s) (hA : ∀ q, s.heap.size ≤ q → A q) (hml : c.maxLocals = nL) {Qc : Array Value → State → Outcome → State → Prop} (hMet : AM l y bytes maxL none rm adK adV st D E A (.ref b :: as) V ad C Qc mc ms)
    (h1 : Cond.methodLinkNest own index y host ∈ lw_tbl) (h2 : Cond.instanceMethod y ∈ lw_all) (h4 : Cond.initialized y.cls ∈ lw_all) (h5 : Cond.code y bytes maxL none ∈ lw_all) (hy1 : y.name = "<init>")
    (hd : y.cls ≠ "java/lang/invoke/MethodHandle" ∧ y.cls ≠ "java/lang/invoke/VarHandle" ∧ (parseMethodDescriptor y.desc).map (fun d => d.parameters.length) = some n) (hrm : rm.cells = mc ∧ rm.slots = ms) (hR : R = rmc) (hRR : rm.frames + 1 ≤ rmc.frames ∧ 8 + (maxL + 11) + rm.locals ≤ rmc.locals) (hcs : cells + mc ≤ R.cells ∧ slots + ms ≤ R.slots)
    (hG : GW D A V ad C H) (hS : va_S A s.heap H locs) (hlen : as.length = n) (hsz : ls.size = nL) (hst : st0 = as.reverse ++ .ref b :: rest) (hcat : (rest.map fun v => v.category).sum ≤ 8) (hdg : decode cc pc = .ok (.invokespecial index, 3)) :
    va_Run p l e R s m args below meth c H locs cells slots mc ms (F0 m pc ls st0) rest (Qc (Value.ref b :: as).toArray) A := by
  subst hR
  exact va_runIN (As := as) (rest := rest) ⟨hC.1, hC.2.1, hml, hC.2.2.1, hC.2.2.2.1⟩ hMet ⟨va_cnB n hC.2.2.2.1 (lw_meth h5) rfl hrm.1 hrm.2 (hE.2.2.2.2.1 _ (nw_w h1 rfl)) (hC.2.2.2.1 _ h4) hd hRR, hy1, hC.2.2.2.1 _ h2⟩ ⟨fun a U g mk q => ⟨q.1, AB.blind a U g mk q.2⟩, fun U hU hW => ⟨rfl, AB.at hC.2.2.2.2 hG hE hS hA U hU hW⟩⟩ rfl hlen hsz hst (lv_room hcat) hdg hcs
theorem a_runS (hC : CK p m c cc s args own D E) (hE : EV adK adV st A s) (hA : ∀ q, s.heap.size ≤ q → A q) (hml : c.maxLocals = nL) {Qc : Array Value → State → Outcome → State → Prop} (hMet : AM l y bytes maxL ret rm adK adV st D E A as V ad C Qc mc ms)
    (h1 : Cond.methodLink own index y ∈ lw_all) (h2 : Cond.static y ∈ lw_all) (h4 : Cond.initialized y.cls ∈ lw_all) (h5 : Cond.code y bytes maxL ret ∈ lw_all)
    (hd : y.cls ≠ "java/lang/invoke/MethodHandle" ∧ y.cls ≠ "java/lang/invoke/VarHandle" ∧ (parseMethodDescriptor y.desc).map (fun d => d.parameters.length) = some n) (hrm : rm.cells = mc ∧ rm.slots = ms) (hR : R = rmc) (hRR : rm.frames + 1 ≤ rmc.frames ∧ 8 + (maxL + 11) + rm.locals ≤ rmc.locals) (hcs : cells + mc ≤ R.cells ∧ slots + ms ≤ R.slots)
    (hG : GW D A V ad C H) (hS : va_S A s.heap H locs) (hlen : as.length = n) (hsz : ls.size = nL) (hst : st0 = as.reverse ++ rest) (hcat : (rest.map fun v => v.category).sum ≤ 8) (hdg : decode cc pc = .ok (.invokestatic index, 3)) :
    va_Run p l e R s m args below meth c H locs cells slots mc ms (F0 m pc ls st0) rest (Qc as.toArray) A := by
  subst hR
  exact va_runS (As := as) (rest := rest) ⟨hC.1, hC.2.1, hml, hC.2.2.1, hC.2.2.2.1⟩ hMet ⟨callB_of n hC.2.2.2.1 (lw_meth h5) rfl hrm.1 hrm.2 (hC.2.2.2.1 _ h4) (hC.2.2.2.1 _ h1) hd hRR, hC.2.2.2.1 _ h2⟩ ⟨fun a U g mk q => ⟨q.1, AB.blind a U g mk q.2⟩, fun U hU hW => ⟨rfl, AB.at hC.2.2.2.2 hG hE hS hA U hU hW⟩⟩ rfl hlen hsz hst (lv_room hcat) hdg hcs
theorem a_calli {post : Int → (Nat → Nat) → (Nat → Prop) → (Nat → va_E) → Prop} {x : Array Value} (hr : va_Run p l e R s m args below meth c H locs cells slots mc ms (F0 m pc ls st0) rest (AQi D E A post x) A) (hS : va_S A s.heap H locs)
    (kk : ∀ (z : Int) (ad1 : Nat → Nat) (V1 : Nat → Prop) (C1 : Nat → va_E) (H1 : Heap) (locs1 : List Loc), post z ad1 V1 C1 → GW D A V1 ad1 C1 H1 → va_S A s.heap H1 locs1 → W p l e R s m args below meth c H1 locs1 (cells + mc) (slots + ms) Q (F0 m (pc + 3) ls (.int (iI z) :: rest))) : W p l e R s m args below meth c H locs cells slots Q (F0 m pc ls st0) := by
  refine va_calli hr hS (fun q _ h => h) (fun q h => h) (fun r u t H1 locs1 ht hvm hw hB hz1 hk1 hS1 => ?_)
  obtain ⟨z, rfl, hp⟩ := hw
  exact kk z u.1 u.2.1 u.2.2 H1 locs1 hp (by rw [← ht]; exact hB.2) hS1
theorem a_callv {post : (Nat → Nat) → (Nat → Prop) → (Nat → va_E) → Prop} {x : Array Value} (hr : va_Run p l e R s m args below meth c H locs cells slots mc ms (F0 m pc ls st0) rest (AQv D E A post x) A) (hS : va_S A s.heap H locs)
    (kk : ∀ (ad1 : Nat → Nat) (V1 : Nat → Prop) (C1 : Nat → va_E) (H1 : Heap) (locs1 : List Loc), post ad1 V1 C1 → GW D A V1 ad1 C1 H1 → va_S A s.heap H1 locs1 → W p l e R s m args below meth c H1 locs1 (cells + mc) (slots + ms) Q (F0 m (pc + 3) ls rest)) : W p l e R s m args below meth c H locs cells slots Q (F0 m pc ls st0) := by
  refine va_callv hr hS (fun q _ h => h) (fun q h => h) (fun u t H1 locs1 ht hvm hw hB hz1 hk1 hS1 => ?_)
  exact kk u.1 u.2.1 u.2.2 H1 locs1 hw (by rw [← ht]; exact hB.2) hS1
theorem a_callw {post : Value → (Nat → Nat) → (Nat → Prop) → (Nat → va_E) → Prop} {x : Array Value} (hr : va_Run p l e R s m args below meth c H locs cells slots mc ms (F0 m pc ls st0) rest (AQw D E A post x) A) (hS : va_S A s.heap H locs)
    (kk : ∀ (v : Value) (ad1 : Nat → Nat) (V1 : Nat → Prop) (C1 : Nat → va_E) (H1 : Heap) (locs1 : List Loc), post v ad1 V1 C1 → GW D A V1 ad1 C1 H1 → va_S A s.heap H1 locs1 → W p l e R s m args below meth c H1 locs1 (cells + mc) (slots + ms) Q (F0 m (pc + 3) ls (v :: rest))) : W p l e R s m args below meth c H locs cells slots Q (F0 m pc ls st0) := by
  intro T hT X
  obtain ⟨v, st₀, t, T', L, h0, X', hL, e1, e2, ⟨⟨v0, u, hv, hp, hb⟩, hz, hk⟩, st⟩ := hr T hT X
  cases hv
  rw [h0] at hz hk
  obtain ⟨t2, a1, b1⟩ := kk v0 u.1 u.2.1 u.2.2 T'.heap (locs ++ L) hp (by rw [e1]; exact hb.2)
    ⟨Nat.le_trans hS.1 (by rw [e1]; exact hz), fun q h1 h2 => by rw [e1, hk q (Nat.lt_of_lt_of_le h1 hS.1) h2]; exact hS.2.1 q h1 h2, fun q hq => by
      rcases List.mem_append.mp hq with h | h
      · exact hS.2.2 q h
      · exact hL q h⟩ T' rfl X'
  exact ⟨t2, st t2 a1, b1⟩
/-! rows -/
theorem a_put {cC0 : String} {T : u_T} {N ci : Nat} {tyf : Nat → FieldType} (hC : CK p m c cc s args own D E) (hG : GW D A V ad C H) (hS : va_S A H0 H locs) (r : Nat) (ea : ad r = a) (hV : V r) {fs : List Value} (he : C r = .inr (ci, fs)) (hc : clAll[ci]? = some (cC0, T, N)) (hin : ∀ w ∈ u_ws cC0 T N, w ∈ lw_all) (hty : ∀ k, k < N → parseFieldDescriptor (T k).2.2.1 = some (tyf k)) (hnm : ∀ a, a < N → ∀ b, b < N → a ≠ b → (T a).2.1 ≠ (T b).2.1) (k : Nat) (hk : k < N) (hl : Cond.fieldLink own index cC0 (T k).2.1 (T k).2.2.1 ∈ lw_all) (hT : (T k).1 = cC0) (hfin : (T k).2.2.2 = false) {w : Value} (hn : narrow (tyf k) w = w) (hfit : fits (tyf k) w = true) (hlen : k < fs.length) (hdg : decode cc pc = .ok (.putfield index, 3))
    (kk : ∀ (C1 : Nat → va_E) (H1 : Heap) (locs1 : List Loc), C1 r = .inr (ci, fs.set k w) → (∀ q, q ≠ r → C1 q = C q) → GW D A V ad C1 H1 → va_S A H0 H1 locs1 → W p l e R s m args below meth c H1 locs1 cells slots Q (F0 m (pc + 3) ls rest)) : W p l e R s m args below meth c H locs cells slots Q (F0 m pc ls (w :: .ref a :: rest)) := by
  subst ea
  exact g_put hC hG hS r hV he hc hin hty hnm k hk hl hT hfin hn hfit hlen hdg (va_up C r (.inr (ci, fs.set k w))) (by simp [va_up]) (fun q _ hq => by simp [va_up, hq]) (fun H1 locs1 h1 h2 => kk _ H1 locs1 (by simp [va_up]) (fun q hq => by simp [va_up, hq]) h1 h2)
/-- a field inherited, under the name that javac spells -/
theorem a_putS {cC0 ref : String} {T : u_T} {N ci : Nat} {tyf : Nat → FieldType} (hC : CK p m c cc s args own D E) (hG : GW D A V ad C H) (hS0 : va_S A H0 H locs) (r : Nat) (ea : ad r = a) (hV : V r) {fs : List Value} (he : C r = .inr (ci, fs)) (hc : clAll[ci]? = some (cC0, T, N)) (hin : ∀ w ∈ u_ws cC0 T N, w ∈ lw_all) (hty : ∀ k, k < N → parseFieldDescriptor (T k).2.2.1 = some (tyf k)) (hnm : ∀ a, a < N → ∀ b, b < N → a ≠ b → (T a).2.1 ≠ (T b).2.1) (k : Nat) (hk : k < N) (hl : Cond.fieldLink own index ref (T k).2.1 (T k).2.2.1 ∈ lw_all) (hsm : ∀ x, s.fieldFound? (T k).1 (T k).2.1 (T k).2.2.1 = some x → s.fieldFound? ref (T k).2.1 (T k).2.2.1 = some x) (hfin : (T k).2.2.2 = false) {w : Value} (hn : narrow (tyf k) w = w) (hfit : fits (tyf k) w = true) (hlen : k < fs.length) (hdg : decode cc pc = .ok (.putfield index, 3))
    (kk : ∀ (C1 : Nat → va_E) (H1 : Heap) (locs1 : List Loc), C1 r = .inr (ci, fs.set k w) → (∀ q, q ≠ r → C1 q = C q) → GW D A V ad C1 H1 → va_S A H0 H1 locs1 → W p l e R s m args below meth c H1 locs1 cells slots Q (F0 m (pc + 3) ls rest)) : W p l e R s m args below meth c H locs cells slots Q (F0 m pc ls (w :: .ref a :: rest)) := by
  subst ea
  obtain ⟨hx, hb, hown, hts, hK⟩ := hC
  have hap := va_apart (own := own) (ci := ci) hts hin tyf hty hnm hK hc
  have hat := (hG r hV).1
  rw [he] at hat
  obtain ⟨r0, q0, cell, q1, q2, q3, q4⟩ := hat
  have hr : r0 = (cC0, T, N) := Option.some.inj (q0.symm.trans hc)
  subst hr
  obtain ⟨hS, hfc, kC, hkC, hkind⟩ := hK.1 ci _ hc
  obtain ⟨cf, kf, fi, f, hi, hsl⟩ := hS k hk
  have hlay := hts _ (hin _ (u_in_lay hk))
  unfold u_lay at hlay
  rw [if_neg (by rw [hfin]; decide)] at hlay
  have hst := (u_facts hfc hkC (u_lays hts hin hk) hi).1
  have h6 := u_store hfc hkC hkind hlay hi (hty k hk) hn hfit
  refine W.putK hx hb (f := f) ⟨hown, hts _ hl, ⟨_, _, _, hsm _ hi⟩, hst⟩ (by rw [q2]; exact h6) q1 q3 (by rw [hsl]; exact k2_hasslot (q4 k hk)) rfl rfl hdg fun H' e1 e2 e3 => ?_
  rw [hsl] at e1 ⊢
  refine kk (va_up C r (.inr (ci, fs.set k w))) H' _ (by simp [va_up]) (fun q hq => by simp [va_up, hq]) (hG.set hV ?_ e3 (fun q _ hq => by simp [va_up, hq])) (hS0.put e2 e3 (hG r hV).2.1)
  rw [show va_up C r (.inr (ci, fs.set k w)) r = .inr (ci, fs.set k w) by simp [va_up]]
  exact ⟨_, hc, t_OB.to (V := updV (vp_V fs) k w) ⟨_, e1, q2, q3, t_set q4 hap hk w⟩ (fun j _ => vp_updV_set hlen w j)⟩
theorem a_getS {cC0 ref : String} {T : u_T} {N ci : Nat} (hC : CK p m c cc s args own D E) (hG : GW D A V ad C H) (r : Nat) (ea : ad r = a) (hV : V r) {fs : List Value} (he : C r = .inr (ci, fs)) (hc : clAll[ci]? = some (cC0, T, N)) (hin : ∀ w ∈ u_ws cC0 T N, w ∈ lw_all) (k : Nat) (hk : k < N) (hl : Cond.fieldLink own index ref (T k).2.1 (T k).2.2.1 ∈ lw_all) (hsm : ∀ x, s.fieldFound? (T k).1 (T k).2.1 (T k).2.2.1 = some x → s.fieldFound? ref (T k).2.1 (T k).2.2.1 = some x) {v : Value} (hv : fs[k]? = some v) (hdg : decode cc pc = .ok (.getfield index, 3))
    (kk : W p l e R s m args below meth c H locs cells slots Q (F0 m (pc + 3) ls (v :: rest))) : W p l e R s m args below meth c H locs cells slots Q (F0 m pc ls (.ref a :: rest)) := by
  subst ea
  exact va_get (ref := ref) (ci := ci) hC.1 hC.2.1 hC.2.2.2.1 hin hC.2.2.1 hC.2.2.2.2 (va_P1 (he ▸ (hG r hV).1)) 0 rfl hc k hk (hC.2.2.2.1 _ hl) hsm hv hdg kk
/-- a final field, in the constructor -/
theorem a_putF {cC0 : String} {T : u_T} {N ci : Nat} {tyf : Nat → FieldType} (hC : CK p m c cc s args cC0 D E) (hnm1 : meth.name = "<init>") (hG : GW D A V ad C H) (hS0 : va_S A H0 H locs) (r : Nat) (ea : ad r = a) (hV : V r) {fs : List Value} (he : C r = .inr (ci, fs)) (hc : clAll[ci]? = some (cC0, T, N)) (hin : ∀ w ∈ u_ws cC0 T N, w ∈ lw_all) (hty : ∀ k, k < N → parseFieldDescriptor (T k).2.2.1 = some (tyf k)) (hnm : ∀ a, a < N → ∀ b, b < N → a ≠ b → (T a).2.1 ≠ (T b).2.1) (k : Nat) (hk : k < N) (hl : Cond.fieldLink cC0 index cC0 (T k).2.1 (T k).2.2.1 ∈ lw_all) (hT : (T k).1 = cC0) (hfin : (T k).2.2.2 = true) {w : Value} (hn : narrow (tyf k) w = w) (hfit : fits (tyf k) w = true) (hlen : k < fs.length) (hdg : decode cc pc = .ok (.putfield index, 3))
    (kk : ∀ (C1 : Nat → va_E) (H1 : Heap) (locs1 : List Loc), C1 r = .inr (ci, fs.set k w) → (∀ q, q ≠ r → C1 q = C q) → GW D A V ad C1 H1 → va_S A H0 H1 locs1 → W p l e R s m args below meth c H1 locs1 cells slots Q (F0 m (pc + 3) ls rest)) : W p l e R s m args below meth c H locs cells slots Q (F0 m pc ls (w :: .ref a :: rest)) := by
  subst ea
  obtain ⟨hx, hb, hown, hts, hK⟩ := hC
  have hap := va_apart (own := cC0) (ci := ci) hts hin tyf hty hnm hK hc
  have hat := (hG r hV).1
  rw [he] at hat
  obtain ⟨r0, q0, cell, q1, q2, q3, q4⟩ := hat
  have hr : r0 = (cC0, T, N) := Option.some.inj (q0.symm.trans hc)
  subst hr
  obtain ⟨hS, hfc, kC, hkC, hkind⟩ := hK.1 ci _ hc
  obtain ⟨cf, kf, fi, f, hi, hsl⟩ := hS k hk
  have hlay := hts _ (hin _ (u_in_lay hk))
  unfold u_lay at hlay
  rw [if_pos hfin] at hlay
  have hst := (u_facts hfc hkC (u_lays hts hin hk) hi).1
  have hcf : m.cls = cf := by
    obtain ⟨_, _, c', _, _, _, -, -, hf', -, -, -, hown2, -⟩ := Cond.laysFinal_spec hlay
    have e1 : c' = cf := by have := hi.symm.trans hf'; simp at this; exact this.1.symm
    rw [hT] at hown2
    rw [← e1]; exact Option.some.inj (hown.symm.trans hown2)
  have h6 := u_fits hfc hkC hkind (Or.inr hlay) hi (hty k hk) hn hfit
  rw [hT] at hi
  refine W.putFinK hx hb hown (hts _ hl) hi hst hcf hnm1 (by rw [q2]; exact h6) q1 q3 (by rw [hsl]; exact k2_hasslot (q4 k hk)) rfl rfl hdg fun H' e1 e2 e3 => ?_
  rw [hsl] at e1 ⊢
  refine kk (va_up C r (.inr (ci, fs.set k w))) H' _ (by simp [va_up]) (fun q hq => by simp [va_up, hq]) (hG.set hV ?_ e3 (fun q _ hq => by simp [va_up, hq])) (hS0.put e2 e3 (hG r hV).2.1)
  rw [show va_up C r (.inr (ci, fs.set k w)) r = .inr (ci, fs.set k w) by simp [va_up]]
  exact ⟨_, hc, t_OB.to (V := updV (vp_V fs) k w) ⟨_, e1, q2, q3, t_set q4 hap hk w⟩ (fun j _ => vp_updV_set hlen w j)⟩
theorem a_get {cC0 : String} {T : u_T} {N ci : Nat} (hC : CK p m c cc s args own D E) (hG : GW D A V ad C H) (r : Nat) (ea : ad r = a) (hV : V r) {fs : List Value} (he : C r = .inr (ci, fs)) (hc : clAll[ci]? = some (cC0, T, N)) (hin : ∀ w ∈ u_ws cC0 T N, w ∈ lw_all) (k : Nat) (hk : k < N) (hl : Cond.fieldLink own index cC0 (T k).2.1 (T k).2.2.1 ∈ lw_all) (hT : (T k).1 = cC0) {v : Value} (hv : fs[k]? = some v) (hdg : decode cc pc = .ok (.getfield index, 3))
    (kk : W p l e R s m args below meth c H locs cells slots Q (F0 m (pc + 3) ls (v :: rest))) : W p l e R s m args below meth c H locs cells slots Q (F0 m pc ls (.ref a :: rest)) := by
  subst ea
  exact g_get hC hG r hV he hc hin k hk hl hT hv hdg kk
theorem a_getN {cC0 host : String} {T : u_T} {N ci : Nat} (hC : CK p m c cc s args own D E) (hE : EV adK adV st A s) (hG : GW D A V ad C H) (r : Nat) (ea : ad r = a) (hV : V r) {fs : List Value} (he : C r = .inr (ci, fs)) (hc : clAll[ci]? = some (cC0, T, N)) (hin : ∀ w ∈ u_ws cC0 T N, w ∈ lw_all) (k : Nat) (hk : k < N) (hl : Cond.fieldLinkNest own index cC0 (T k).2.1 (T k).2.2.1 host ∈ lw_tbl) (hT : (T k).1 = cC0) {v : Value} (hv : fs[k]? = some v) (hdg : decode cc pc = .ok (.getfield index, 3))
    (kk : W p l e R s m args below meth c H locs cells slots Q (F0 m (pc + 3) ls (v :: rest))) : W p l e R s m args below meth c H locs cells slots Q (F0 m pc ls (.ref a :: rest)) := by
  subst ea
  exact g_getN hC hE hG r hV he hc hin k hk hl hT hv hdg kk
theorem a_ild (hC : CK p m c cc s args own D E) (hG : GW D A V ad C H) (r : Nat) (ea : ad r = a) (hV : V r) {n : Nat} {f : Int → Int} (he : C r = .inl (E 0, n, ai f)) (hn : n < 2147483648) {z v : Int} (hz : 0 ≤ z ∧ z < n) (hv : f z = v) (hdg : decode cc pc = .ok (.iaload, 1)) (kk : W p l e R s m args below meth c H locs cells slots Q (F0 m (pc + 1) ls (.int (iI v) :: rest))) : W p l e R s m args below meth c H locs cells slots Q (F0 m pc ls (.int (iI z) :: .ref a :: rest)) := by
  subst ea
  exact g_ild hC hG r hV he hn hz hv hdg kk
theorem a_bld (hC : CK p m c cc s args own D E) (hG : GW D A V ad C H) (r : Nat) (ea : ad r = a) (hV : V r) {n : Nat} {f : Int → Int} (he : C r = .inl (E 1, n, ai f)) (hn : n < 2147483648) {z v : Int} (hz : 0 ≤ z ∧ z < n) (hv : f z = v) (hdg : decode cc pc = .ok (.baload, 1)) (kk : W p l e R s m args below meth c H locs cells slots Q (F0 m (pc + 1) ls (.int (iI v) :: rest))) : W p l e R s m args below meth c H locs cells slots Q (F0 m pc ls (.int (iI z) :: .ref a :: rest)) := by
  subst ea
  exact g_bld hC hG r hV he hn hz hv hdg kk
theorem a_ald (hC : CK p m c cc s args own D E) (hG : GW D A V ad C H) (r : Nat) (ea : ad r = a) (hV : V r) {n t : Nat} {o : String} {f : Nat → Option Nat} (he : C r = .inl (E t, n, ar f)) (ht : (tyAll E)[t]? = some (E t, .object o)) (hn : n < 2147483648) {z : Int} (hz : 0 ≤ z ∧ z < n) {v : Value} (hv : va_rf (f z.toNat) = v) (hdg : decode cc pc = .ok (.aaload, 1)) (kk : W p l e R s m args below meth c H locs cells slots Q (F0 m (pc + 1) ls (v :: rest))) : W p l e R s m args below meth c H locs cells slots Q (F0 m pc ls (.int (iI z) :: .ref a :: rest)) := by
  subst ea
  exact g_ald hC hG r hV he ht hn hz hv hdg kk
theorem a_aldA (hC : CK p m c cc s args own D E) (hG : GW D A V ad C H) (r : Nat) (ea : ad r = a) (hV : V r) {n t : Nat} {o : FieldType} {f : Nat → Option Nat} (he : C r = .inl (E t, n, ar f)) (ht : (tyAll E)[t]? = some (E t, .array o)) (hn : n < 2147483648) {z : Int} (hz : 0 ≤ z ∧ z < n) {v : Value} (hv : va_rf (f z.toNat) = v) (hdg : decode cc pc = .ok (.aaload, 1)) (kk : W p l e R s m args below meth c H locs cells slots Q (F0 m (pc + 1) ls (v :: rest))) : W p l e R s m args below meth c H locs cells slots Q (F0 m pc ls (.int (iI z) :: .ref a :: rest)) := by
  subst ea
  exact g_aldA hC hG r hV he ht hn hz hv hdg kk
theorem a_len (hC : CK p m c cc s args own D E) (hG : GW D A V ad C H) (r : Nat) (ea : ad r = a) (hV : V r) {n t : Nat} {ty : FieldType} {f : Nat → Option Nat} (he : C r = .inl (E t, n, ar f)) (ht : (tyAll E)[t]? = some (E t, ty)) (hdg : decode cc pc = .ok (.arraylength, 1)) (kk : W p l e R s m args below meth c H locs cells slots Q (F0 m (pc + 1) ls (.int (iI (n : Int)) :: rest))) : W p l e R s m args below meth c H locs cells slots Q (F0 m pc ls (.ref a :: rest)) := by
  subst ea
  have g := (hG r hV).1
  rw [he] at g
  exact W.alen (n := iI (n : Int)) hC.1 hC.2.1 g ((hC.2.2.2.2.2 t _ ht).1 n (fun j => va_rf (f j))) (by show (arrV _ _ _).slots.size.toInt32 = _; rw [arrV_size]; rfl) rfl rfl hdg kk
theorem updV_rf (f : Nat → Option Nat) (k : Nat) (x : Option Nat) : updV (fun j => va_rf (f j)) k (va_rf x) = fun j => va_rf (va_up f k x j) := by
  funext q
  by_cases hq : q = k
  · subst hq
    simp [updV, va_up]
  · simp [updV, va_up, hq]
/-- a reference is stored into a row of E -/
theorem a_ast (hC : CK p m c cc s args own D E) (hG : GW D A V ad C H) (hS : va_S A H0 H locs) (r : Nat) (ea : ad r = a) (hV : V r) {n t v : Nat} {o : String} {f : Nat → Option Nat} (he : C r = .inl (E t, n, ar f)) (ht : (tyAll E)[t]? = some (E t, .object o)) (hn : n < 2147483648) {z : Int} (hz : 0 ≤ z ∧ z < n) (hr : va_Any o s H v) (hdg : decode cc pc = .ok (.aastore, 1))
    (kk : ∀ (C1 : Nat → va_E) (H1 : Heap) (locs1 : List Loc), C1 r = .inl (E t, n, ar (va_up f z.toNat (some v))) → (∀ q, q ≠ r → C1 q = C q) → GW D A V ad C1 H1 → va_S A H0 H1 locs1 → (∀ q, q ≠ a → H1[q]? = H[q]?) → W p l e R s m args below meth c H1 locs1 cells slots Q (F0 m (pc + 1) ls rest)) : W p l e R s m args below meth c H locs cells slots Q (F0 m pc ls (.ref v :: .int (iI z) :: .ref a :: rest)) := by
  subst ea
  have hin := iI_in hz.1 hz.2 hn
  have hlt : (iI z).toNatClampNeg < n := Nat.not_le.mp fun q => hin (Or.inr q)
  have h0 : ¬ iI z < 0 := fun q => hin (Or.inl q)
  have hcl := iI_cl (z := z) ⟨by omega, by omega⟩
  have g := (hG r hV).1
  rw [he] at g
  obtain ⟨cellV, g1, g3, ⟨kC, hkC⟩, hasg⟩ := hr
  obtain ⟨kA, comp, k1, k2, k3, -⟩ := (hC.2.2.2.2.2 t _ ht).2
  obtain ⟨kE, hkE, -⟩ := Vm.findClass_spec k3
  refine W.aast hC.1 hC.2.1 g (fun q h => by cases h) (fun h => by cases h) k1 k2 rfl hkE ⟨h0, by show _ < (arrV _ _ _).slots.size; rw [arrV_size]; exact hlt⟩ g1 (fun q h => by rw [h] at g3; cases g3) hkC (hasg _ k3) rfl rfl hdg fun H1 e1 z1 oq => ?_
  refine kk (va_up C r (.inl (E t, n, ar (va_up f z.toNat (some v))))) H1 _ (by simp [va_up]) (fun q hq => by simp [va_up, hq]) (hG.set hV ?_ oq (fun q _ hq => by simp [va_up, hq])) (hS.put z1 oq (hG r hV).2.1) oq
  rw [show va_up C r (.inl (E t, n, ar (va_up f z.toNat (some v)))) r = .inl (E t, n, ar (va_up f z.toNat (some v))) by simp [va_up]]
  show H1[ad r]? = some (vp_cell _ _)
  rw [e1, ar, ar, vp_cell_q, vp_cell_q, hcl, arrV_store]
  congr 2
  exact updV_rf f z.toNat (some v)
theorem a_astN (hC : CK p m c cc s args own D E) (hG : GW D A V ad C H) (hS : va_S A H0 H locs) (r : Nat) (ea : ad r = a) (hV : V r) {n t : Nat} {o : String} {f : Nat → Option Nat} (he : C r = .inl (E t, n, ar f)) (ht : (tyAll E)[t]? = some (E t, .object o)) (hn : n < 2147483648) {z : Int} (hz : 0 ≤ z ∧ z < n) (hdg : decode cc pc = .ok (.aastore, 1))
    (kk : ∀ (C1 : Nat → va_E) (H1 : Heap) (locs1 : List Loc), C1 r = .inl (E t, n, ar (va_up f z.toNat none)) → (∀ q, q ≠ r → C1 q = C q) → GW D A V ad C1 H1 → va_S A H0 H1 locs1 → W p l e R s m args below meth c H1 locs1 cells slots Q (F0 m (pc + 1) ls rest)) : W p l e R s m args below meth c H locs cells slots Q (F0 m pc ls (.null :: .int (iI z) :: .ref a :: rest)) := by
  subst ea
  have hin := iI_in hz.1 hz.2 hn
  have hcl := iI_cl (z := z) ⟨by omega, by omega⟩
  have g := (hG r hV).1
  rw [he] at g
  refine va_WaastN (C := o) hC.1 hC.2.1 g ((hC.2.2.2.2.2 t _ ht).1 n (fun j => va_rf (f j))) (fun h => by cases h) (by show ¬ (iI z < 0 ∨ (arrV _ _ _).slots.size ≤ _); rw [arrV_size]; exact hin) rfl rfl hdg fun H1 e1 z1 oq => ?_
  refine kk (va_up C r (.inl (E t, n, ar (va_up f z.toNat none)))) H1 _ (by simp [va_up]) (fun q hq => by simp [va_up, hq]) (hG.set hV ?_ oq (fun q _ hq => by simp [va_up, hq])) (hS.put z1 oq (hG r hV).2.1)
  rw [show va_up C r (.inl (E t, n, ar (va_up f z.toNat none))) r = .inl (E t, n, ar (va_up f z.toNat none)) by simp [va_up]]
  show H1[ad r]? = some (vp_cell _ _)
  rw [e1, ar, ar, vp_cell_q, vp_cell_q, hcl, arrV_store]
  congr 2
  exact updV_rf f z.toNat none
/-- a row of references is stored into a row of such rows -/
theorem a_astA (hC : CK p m c cc s args own D E) (hG : GW D A V ad C H) (hS : va_S A H0 H locs) (r : Nat) (ea : ad r = a) (hV : V r) {n t v r1 t1 n1 : Nat} {o : FieldType} {f : Nat → Option Nat} {f1 : Nat → Option Nat} (he : C r = .inl (E t, n, ar f)) (ht : (tyAll E)[t]? = some (E t, .array o)) (hn : n < 2147483648) {z : Int} (hz : 0 ≤ z ∧ z < n) (ev : ad r1 = v) (hV1 : V r1) (he1 : C r1 = .inl (E t1, n1, ar f1)) (hkk : ∃ kA kE : Class, s.vm.classes[E t]? = some kA ∧ kA.kind = .array (E t1) (.array o) ∧ s.vm.classes[E t1]? = some kE) (hdg : decode cc pc = .ok (.aastore, 1))
    (kk : ∀ (C1 : Nat → va_E) (H1 : Heap) (locs1 : List Loc), C1 r = .inl (E t, n, ar (va_up f z.toNat (some v))) → (∀ q, q ≠ r → C1 q = C q) → GW D A V ad C1 H1 → va_S A H0 H1 locs1 → W p l e R s m args below meth c H1 locs1 cells slots Q (F0 m (pc + 1) ls rest)) : W p l e R s m args below meth c H locs cells slots Q (F0 m pc ls (.ref v :: .int (iI z) :: .ref a :: rest)) := by
  subst ea
  subst ev
  have hin := iI_in hz.1 hz.2 hn
  have hlt : (iI z).toNatClampNeg < n := Nat.not_le.mp fun q => hin (Or.inr q)
  have h0 : ¬ iI z < 0 := fun q => hin (Or.inl q)
  have hcl := iI_cl (z := z) ⟨by omega, by omega⟩
  have g := (hG r hV).1
  rw [he] at g
  have g1 := (hG r1 hV1).1
  rw [he1] at g1
  obtain ⟨kA, kE, k1, k2, k3⟩ := hkk
  refine W.aast hC.1 hC.2.1 g (fun q h => by cases h) (fun h => by cases h) k1 k2 rfl k3 ⟨h0, by show _ < (arrV _ _ _).slots.size; rw [arrV_size]; exact hlt⟩ g1 (fun q h => by cases h) k3 (va_asg _ _) rfl rfl hdg fun H1 e1 z1 oq => ?_
  refine kk (va_up C r (.inl (E t, n, ar (va_up f z.toNat (some (ad r1)))))) H1 _ (by simp [va_up]) (fun q hq => by simp [va_up, hq]) (hG.set hV ?_ oq (fun q _ hq => by simp [va_up, hq])) (hS.put z1 oq (hG r hV).2.1)
  rw [show va_up C r (.inl (E t, n, ar (va_up f z.toNat (some (ad r1))))) r = .inl (E t, n, ar (va_up f z.toNat (some (ad r1)))) by simp [va_up]]
  show H1[ad r]? = some (vp_cell _ _)
  rw [e1]
  show some ((vp_cell (E t) (n, ar f)).setSlot (iI z).toNatClampNeg (.ref (ad r1))) = some (vp_cell (E t) (n, ar (va_up f z.toNat (some (ad r1)))))
  rw [ar, ar, vp_cell_q, vp_cell_q, hcl, arrV_store]
  congr 2
  exact updV_rf f z.toNat (some (ad r1))
theorem arrK (hC : CK p m c cc s args own D E) (hE : EV adK adV st A s) : ∃ kA kE : Class, s.vm.classes[E 7]? = some kA ∧ kA.kind = .array (E 6) (.array (.object "ShipSways$Mark")) ∧ s.vm.classes[E 6]? = some kE := by
  have h : (Cond.arrayOver (.array (.object "ShipSways$Mark"))).before #[] s = true := hE.2.2.2.2.2.1.2.2.2.2
  obtain ⟨comp, x, k, h1, -, h3, h4, h5⟩ := arrayOverA_spec h
  have e7 : s.vm.findClass ("[" ++ (FieldType.array (.object "ShipSways$Mark")).toString) = some (E 7) := (hC.2.2.2.2.2 7 _ rfl).2
  obtain ⟨kA, cmp, g1, g2, g3, g4⟩ := (hC.2.2.2.2.2 6 _ rfl).2
  have e6 : comp = E 6 := Option.some.inj (h1.symm.trans g4)
  have e7' : x = E 7 := Option.some.inj (h5.symm.trans e7)
  subst e6
  subst e7'
  exact ⟨k, kA, h3, h4, g1⟩
theorem a_ist (hC : CK p m c cc s args own D E) (hG : GW D A V ad C H) (hS : va_S A H0 H locs) (r : Nat) (ea : ad r = a) (hV : V r) {n : Nat} {f : Int → Int} (he : C r = .inl (E 0, n, ai f)) (hn : n < 2147483648) {z v : Int} (hz : 0 ≤ z ∧ z < n) (hdg : decode cc pc = .ok (.iastore, 1))
    (kk : ∀ (C1 : Nat → va_E) (H1 : Heap) (locs1 : List Loc), C1 r = .inl (E 0, n, ai (updZ f z v)) → (∀ q, q ≠ r → C1 q = C q) → GW D A V ad C1 H1 → va_S A H0 H1 locs1 → W p l e R s m args below meth c H1 locs1 cells slots Q (F0 m (pc + 1) ls rest)) : W p l e R s m args below meth c H locs cells slots Q (F0 m pc ls (.int (iI v) :: .int (iI z) :: .ref a :: rest)) := by
  subst ea
  exact g_ist hC hG hS r hV he hn hz hdg (va_up C r (.inl (E 0, n, ai (updZ f z v)))) (by simp [va_up]) (fun q _ hq => by simp [va_up, hq]) (fun H1 locs1 h1 h2 => kk _ H1 locs1 (by simp [va_up]) (fun q hq => by simp [va_up, hq]) h1 h2)
theorem a_any (hC : CK p m c cc s args own D E) (hE : EV adK adV st A s) (hG : GW D A V ad C H) {r ci : Nat} (hV : V r) {q : vw_C} {fs : List Value} (he : C r = .inr (ci, fs)) (hc : clAll[ci]? = some q) {o : String} (hl : Cond.castable q.1 o ∈ lw_tbl) : va_Any o s H (ad r) := by
  obtain ⟨cell, h1, h2, h3⟩ := g_rec hC.2.2.2.2 hG hV hc he
  obtain ⟨kC, hkC, -⟩ := Vm.findClass_spec h3
  exact ⟨cell, h1, h2, ⟨kC, hkC⟩, fun comp h => vb_asgC (hE.2.2.2.2.1 _ (nw_w hl rfl)) comp _ h h3⟩
/-- new cells -/
theorem a_new {cC0 : String} {T : u_T} {N ci : Nat} (ty : Nat → FieldType) (hC : CK p m c cc s args own D E) (hG : GW D A V ad C H) (hS : va_S A s.heap H locs) (hA : ∀ q, s.heap.size ≤ q → A q) (r : Nat) (hin : ∀ w ∈ u_ws cC0 T N, w ∈ lw_all) (hty : ∀ k, k < N → parseFieldDescriptor (T k).2.2.1 = some (ty k)) (hcl : Cond.classLink own index cC0 ∈ lw_all) (hinst : Cond.instantiable cC0 N ∈ lw_all) (hini : Cond.initialized cC0 ∈ lw_all) (hc : clAll[ci]? = some (cC0, T, N)) {fs : List Value} (hfs : ∀ j, j < N → defaultValue (ty j) = vp_V fs j) (hcells : cells + 1 ≤ R.cells) (hslots : slots + N ≤ R.slots) (hdg : decode cc pc = .ok (.new index, 3))
    (kk : ∀ (x : Nat) (ad1 : Nat → Nat) (C1 : Nat → va_E) (H1 : Heap), ad1 r = x → C1 r = .inr (ci, fs) → (∀ q, q ≠ r → ad1 q = ad q ∧ C1 q = C q) → GW D A (fun q => V q ∨ q = r) ad1 C1 H1 → va_S A s.heap H1 locs → (∀ q, q < H.size → H1[q]? = H[q]?) → W p l e R s m args below meth c H1 locs (cells + 1) (slots + N) Q (F0 m (pc + 3) ls (.ref x :: rest))) : W p l e R s m args below meth c H locs cells slots Q (F0 m pc ls rest) := by
  obtain ⟨hx, hb, hown, hts, hK⟩ := hC
  have hKn := hK.1 ci _ hc
  refine W.newcK hx hb hown (hts _ hcl) (hts _ hinst) (hts _ hini) rfl hdg hcells hslots hKn.2.1 rfl fun H1 kC hkC e1 z1 o1 => ?_
  refine kk H.size (va_up ad r H.size) (va_up C r (.inr (ci, fs))) H1 (by simp [va_up]) (by simp [va_up]) (fun q hq => ⟨by simp [va_up, hq], by simp [va_up, hq]⟩) (hG.new (fun q hq hne => hq.resolve_right hne) (fun q hq => hG.lt hq) (hA _ hS.1) ?_ o1 (fun q _ hq => by simp [va_up, hq])) ⟨Nat.le_trans hS.1 (by omega), fun x h1 h2 => (o1 x (Nat.lt_of_lt_of_le h1 hS.1)).trans (hS.2.1 x h1 h2), hS.2.2⟩ o1
  rw [show va_up C r (.inr (ci, fs)) r = .inr (ci, fs) by simp [va_up]]
  exact ⟨_, hc, (u_born ty hts hin hKn hkC e1 hty).to hfs⟩
theorem a_newa {atype : ArrayType} {t : Nat} {ty : FieldType} (hC : CK p m c cc s args own D E) (hG : GW D A V ad C H) (hS : va_S A s.heap H locs) (hA : ∀ q, s.heap.size ≤ q → A q) (r : Nat) (harr : Cond.arrayClass ty ∈ lw_all) (hty : newarray.typeOf atype = ty) (ht : (tyAll E)[t]? = some (E t, ty)) (hnm : va_RA s (E t) ty = (s.vm.findClass ("[" ++ ty.toString) = some (E t))) (hdv : defaultValue ty = .int (iI 0)) {zn : Int} {N : Nat} (hz : zn = N) (hN : N * componentBytes ty ≤ 536870912) (hN2 : N < 2147483648) (hcells : cells + 1 ≤ R.cells) (hslots : slots + N ≤ R.slots) (hdg : decode cc pc = .ok (.newarray atype, 2))
    (kk : ∀ (x : Nat) (ad1 : Nat → Nat) (C1 : Nat → va_E) (H1 : Heap), ad1 r = x → C1 r = .inl (E t, N, ai (fun _ => 0)) → (∀ q, q ≠ r → ad1 q = ad q ∧ C1 q = C q) → GW D A (fun q => V q ∨ q = r) ad1 C1 H1 → va_S A s.heap H1 locs → (∀ q, q < H.size → H1[q]? = H[q]?) → W p l e R s m args below meth c H1 locs (cells + 1) (slots + N) Q (F0 m (pc + 2) ls (.ref x :: rest))) : W p l e R s m args below meth c H locs cells slots Q (F0 m pc ls (.int (iI zn) :: rest)) := by
  obtain ⟨hx, hb, hown, hts, hK⟩ := hC
  subst hty
  subst hz
  have hin := iI_cl (z := (N : Int)) ⟨by omega, by omega⟩
  refine va_newaK hx hb (hts _ harr) rfl hdg rfl (iI_nn (by omega) (by omega)) (hin.trans (Int.toNat_natCast N)) hN hcells hslots rfl fun H1 cA e1 z1 o1 hAr hNm => ?_
  have hcA : cA = E t := by
    have h := (hK.2 t _ ht).2
    rw [hnm] at h
    exact Option.some.inj (hNm.symm.trans h)
  subst hcA
  refine kk H.size (va_up ad r H.size) (va_up C r (.inl (E t, N, ai (fun _ => 0)))) H1 (by simp [va_up]) (by simp [va_up]) (fun q hq => ⟨by simp [va_up, hq], by simp [va_up, hq]⟩) (hG.new (fun q hq hne => hq.resolve_right hne) (fun q hq => hG.lt hq) (hA _ hS.1) ?_ o1 (fun q _ hq => by simp [va_up, hq])) ⟨Nat.le_trans hS.1 (by omega), fun x h1 h2 => (o1 x (Nat.lt_of_lt_of_le h1 hS.1)).trans (hS.2.1 x h1 h2), hS.2.2⟩ o1
  rw [show va_up C r (.inl (E t, N, ai (fun _ => 0))) r = .inl (E t, N, ai (fun _ => 0)) by simp [va_up]]
  show H1[H.size]? = some (vp_cell _ _)
  rw [ai, vp_cell_i, e1, hdv]
theorem a_anew {t : Nat} {o : String} (hC : CK p m c cc s args own D E) (hG : GW D A V ad C H) (hS : va_S A s.heap H locs) (hA : ∀ q, s.heap.size ≤ q → A q) (r : Nat) (hcl : Cond.classLink own index o ∈ lw_all) (hover : va_AO o s) (ht : (tyAll E)[t]? = some (E t, .object o)) {zn : Int} {N : Nat} (hz : zn = N) (hN : N * 4 ≤ 536870912) (hcells : cells + 1 ≤ R.cells) (hslots : slots + N ≤ R.slots) (hdg : decode cc pc = .ok (.anewarray index, 3))
    (kk : ∀ (x : Nat) (ad1 : Nat → Nat) (C1 : Nat → va_E) (H1 : Heap), ad1 r = x → C1 r = .inl (E t, N, ar (fun _ => none)) → (∀ q, q ≠ r → ad1 q = ad q ∧ C1 q = C q) → GW D A (fun q => V q ∨ q = r) ad1 C1 H1 → va_S A s.heap H1 locs → (∀ q, q < H.size → H1[q]? = H[q]?) → W p l e R s m args below meth c H1 locs (cells + 1) (slots + N) Q (F0 m (pc + 3) ls (.ref x :: rest))) : W p l e R s m args below meth c H locs cells slots Q (F0 m pc ls (.int (iI zn) :: rest)) := by
  obtain ⟨hx, hb, hown, hts, hK⟩ := hC
  subst hz
  have hin := (iI_cl (z := (N : Int)) ⟨by omega, by omega⟩).trans (Int.toNat_natCast N)
  refine W.anew hx hb hown (hts _ hcl) (va_AO.use hover) rfl hdg rfl (iI_nn (by omega) (by omega)) (by rw [hin]; exact hN) hcells (by rw [hin]; exact hslots) fun cA kA comp f1 f2 f3 f4 => ?_
  have hcA : cA = E t := by
    obtain ⟨-, -, -, -, -, h⟩ := (hK.2 t _ ht).2
    exact Option.some.inj (f1.symm.trans h)
  subst hcA
  rw [hin]
  generalize hH1 : H.push ({ cls := E t, slots := Array.replicate N .null, vm := .none } : Cell) = H1
  have z1 : H1.size = H.size + 1 := by rw [← hH1, Array.size_push]
  have e1 : H1[H.size]? = some (arrV (E t) N (fun _ => .null)) := by rw [← hH1, Array.getElem?_push_size, ← arrV_new]
  have o1 : ∀ q : Nat, q < H.size → H1[q]? = H[q]? := fun q hq => by rw [← hH1, Array.getElem?_push, if_neg (Nat.ne_of_lt hq)]
  refine kk H.size (va_up ad r H.size) (va_up C r (.inl (E t, N, ar (fun _ => none)))) H1 (by simp [va_up]) (by simp [va_up]) (fun q hq => ⟨by simp [va_up, hq], by simp [va_up, hq]⟩) (hG.new (fun q hq hne => hq.resolve_right hne) (fun q hq => hG.lt hq) (hA _ hS.1) ?_ o1 (fun q _ hq => by simp [va_up, hq])) ⟨Nat.le_trans hS.1 (by omega), fun x h1 h2 => (o1 x (Nat.lt_of_lt_of_le h1 hS.1)).trans (hS.2.1 x h1 h2), hS.2.2⟩ o1
  rw [show va_up C r (.inl (E t, N, ar (fun _ => none))) r = .inl (E t, N, ar (fun _ => none)) by simp [va_up]]
  show H1[H.size]? = some (vp_cell _ _)
  rw [ar, vp_cell_q]
  exact e1
theorem a_anewA {t : Nat} {o : FieldType} {nm : String} (hC : CK p m c cc s args own D E) (hG : GW D A V ad C H) (hS : va_S A s.heap H locs) (hA : ∀ q, s.heap.size ≤ q → A q) (r : Nat) (enm : (FieldType.array o).toString = nm) (hcl : Cond.classLink own index nm ∈ lw_all) (hover : (Cond.arrayOver (.array o)).before args s = true) (ht : (tyAll E)[t]? = some (E t, .array o)) {zn : Int} {N : Nat} (hz : zn = N) (hN : N * 4 ≤ 536870912) (hcells : cells + 1 ≤ R.cells) (hslots : slots + N ≤ R.slots) (hdg : decode cc pc = .ok (.anewarray index, 3))
    (kk : ∀ (x : Nat) (ad1 : Nat → Nat) (C1 : Nat → va_E) (H1 : Heap), ad1 r = x → C1 r = .inl (E t, N, ar (fun _ => none)) → (∀ q, q ≠ r → ad1 q = ad q ∧ C1 q = C q) → GW D A (fun q => V q ∨ q = r) ad1 C1 H1 → va_S A s.heap H1 locs → (∀ q, q < H.size → H1[q]? = H[q]?) → W p l e R s m args below meth c H1 locs (cells + 1) (slots + N) Q (F0 m (pc + 3) ls (.ref x :: rest))) : W p l e R s m args below meth c H locs cells slots Q (F0 m pc ls (.int (iI zn) :: rest)) := by
  obtain ⟨hx, hb, hown, hts, hK⟩ := hC
  subst hz
  subst enm
  have hin := (iI_cl (z := (N : Int)) ⟨by omega, by omega⟩).trans (Int.toNat_natCast N)
  refine W.anewA hx hb hown (hts _ hcl) hover rfl hdg rfl (iI_nn (by omega) (by omega)) (by rw [hin]; exact hN) hcells (by rw [hin]; exact hslots) fun cA kA comp f1 f2 f3 f4 => ?_
  have hcA : cA = E t := Option.some.inj (f1.symm.trans (hK.2 t _ ht).2)
  subst hcA
  rw [hin]
  generalize hH1 : H.push ({ cls := E t, slots := Array.replicate N .null, vm := .none } : Cell) = H1
  have z1 : H1.size = H.size + 1 := by rw [← hH1, Array.size_push]
  have e1 : H1[H.size]? = some (arrV (E t) N (fun _ => .null)) := by rw [← hH1, Array.getElem?_push_size, ← arrV_new]
  have o1 : ∀ q : Nat, q < H.size → H1[q]? = H[q]? := fun q hq => by rw [← hH1, Array.getElem?_push, if_neg (Nat.ne_of_lt hq)]
  refine kk H.size (va_up ad r H.size) (va_up C r (.inl (E t, N, ar (fun _ => none)))) H1 (by simp [va_up]) (by simp [va_up]) (fun q hq => ⟨by simp [va_up, hq], by simp [va_up, hq]⟩) (hG.new (fun q hq hne => hq.resolve_right hne) (fun q hq => hG.lt hq) (hA _ hS.1) ?_ o1 (fun q _ hq => by simp [va_up, hq])) ⟨Nat.le_trans hS.1 (by omega), fun x h1 h2 => (o1 x (Nat.lt_of_lt_of_le h1 hS.1)).trans (hS.2.1 x h1 h2), hS.2.2⟩ o1
  rw [show va_up C r (.inl (E t, N, ar (fun _ => none))) r = .inl (E t, N, ar (fun _ => none)) by simp [va_up]]
  show H1[H.size]? = some (vp_cell _ _)
  rw [ar, vp_cell_q]
  exact e1
theorem a_oini (hC : CK p m c cc s args own D E) (hml : c.maxLocals = ls.size) (h1 : Cond.methodLink own index yJ12_init ∈ lw_all) (h2 : Cond.instanceMethod yJ12_init ∈ lw_all) (h3 : Cond.code yJ12_init cJ12_init 1 none ∈ lw_all) (hframes : 1 ≤ R.frames) (hlocals : (rest.map fun v => v.category).sum + 12 ≤ R.locals) (hdg : decode cc pc = .ok (.invokespecial index, 3)) (kk : W p l e R s m args below meth c H locs cells slots Q (F0 m (pc + 3) ls rest)) : W p l e R s m args below meth c H locs cells slots Q (F0 m pc ls (.ref a :: rest)) :=
  W.objInit hC.1 hC.2.1 hC.2.2.1 (hC.2.2.2.1 _ h1) (hC.2.2.2.1 _ h2) (hC.2.2.2.1 _ h3) (g := F0 m pc ls (.ref a :: rest)) rfl hml.symm rfl hdg hframes (by show 2 * 0 + _ + _ ≤ _; omega) kk
/-- references of a row are copied, from the first on -/
theorem a_copy (hC : CK p m c cc s args own D E) (hml : c.maxLocals = ls.size) (hlink : Cond.methodLink own index arraycopyName ∈ lw_all) (hnat : Cond.native arraycopyName ∈ lw_all) (hstat : Cond.static arraycopyName ∈ lw_all) (hini : Cond.initialized "java/lang/System" ∈ lw_all) (hG : GW D A V ad C H) (hS : va_S A H0 H locs) (r0 r1 t : Nat) {a0 : Nat} (ea0 : ad r0 = a0) (ea1 : ad r1 = a) (hV0 : V r0) (hV1 : V r1) {n0 n1 : Nat} {f : Nat → Option Nat} {o : String} (he0 : C r0 = .inl (E t, n0, ar f)) (he1 : C r1 = .inl (E t, n1, ar (fun _ => none))) (ht : (tyAll E)[t]? = some (E t, .object o)) {zn : Int} (hz : zn = n0) (hn : n0 ≤ n1) (hn1 : n1 < 2147483648) (hel : ∀ i : Nat, i < n0 → ∀ y : Nat, f i = some y → va_Any o s H y)
    (hframes : 1 ≤ R.frames) (hlocals : (rest.map fun v => v.category).sum + (nativeFrameWords "java/lang/System" "arraycopy" 5 + 11) ≤ R.locals) (hdg : decode cc pc = .ok (.invokestatic index, 3))
    (kk : ∀ (C1 : Nat → va_E) (H1 : Heap) (locs1 : List Loc), C1 r1 = .inl (E t, n1, ar (fun j => if j < n0 then f j else none)) → (∀ q, q ≠ r1 → C1 q = C q) → GW D A V ad C1 H1 → va_S A H0 H1 locs1 → W p l e R s m args below meth c H1 locs1 cells slots Q (F0 m (pc + 3) ls rest)) : W p l e R s m args below meth c H locs cells slots Q (F0 m pc ls (.int (iI zn) :: .int (iI 0) :: .ref a :: .int (iI 0) :: .ref a0 :: rest)) := by
  subst ea0
  subst ea1
  subst hz
  obtain ⟨hx, hb, hown, hts, hK⟩ := hC
  have hcl : (iI (n0 : Int)).toNatClampNeg = n0 := (iI_cl (z := (n0 : Int)) ⟨by omega, by omega⟩).trans (Int.toNat_natCast n0)
  have hti : (iI (n0 : Int)).toInt = (n0 : Int) := iI_toInt ⟨by omega, by omega⟩
  intro T hT X
  have hc0 : H[ad r0]? = some (vp_cell (E t) (n0, ar f)) := by have g := (hG r0 hV0).1; rw [he0] at g; exact g
  have hc1 : H[ad r1]? = some (vp_cell (E t) (n1, ar (fun _ => none))) := by have g := (hG r1 hV1).1; rw [he1] at g; exact g
  obtain ⟨-, k0, hk0, cm0, hkk0⟩ := (hK.2 t _ ht).1 n0 (fun j => va_rf (f j))
  obtain ⟨vm', X', step⟩ := X.arraycopy hx hown (hts _ hlink) (hts _ hnat) (hts _ hstat) (hts _ hini) (src := ad r0) (dst := ad r1) (cs := vp_cell (E t) (n0, ar f)) (cd := vp_cell (E t) (n1, ar (fun _ => none))) (srcPos := iI 0) (destPos := iI 0) (n := iI (n0 : Int)) (by rw [hT]; exact hc0) (by rw [hT]; exact hc1)
    (fun _ h => by cases h) (fun _ h => by cases h) (fun h => by cases h) (fun h => by cases h) hk0 hk0 hkk0 hkk0 rfl (by decide) (by decide) (iI_nn (by omega) (by omega))
    (by rw [hti]; show ¬ (0 : Int) + _ > ((arrV (E t) n0 (fun j => va_rf (f j))).slots.size : Int); rw [arrV_size]; omega)
    (by rw [hti]; show ¬ (0 : Int) + _ > ((arrV (E t) n1 (fun j => va_rf none)).slots.size : Int); rw [arrV_size]; omega)
    (fun vm₁ hal i hi => by
      rw [hcl] at hi
      have e : (vp_cell (E t) (n0, ar f)).slots.getD ((iI 0).toNatClampNeg + i) .null = va_rf (f i) := by
        show (arrV (E t) n0 (fun j => va_rf (f j))).slots.getD _ _ = _
        rw [show (iI 0).toNatClampNeg + i = i from Nat.zero_add i, Array.getD_eq_getD_getElem?, arrV_read _ _ (by omega)]
        rfl
      rw [e]
      cases hy : f i with
      | none => exact ⟨rfl, trivial⟩
      | some y =>
        obtain ⟨cellV, g1, g2, ⟨kC, hkC⟩, hasg⟩ := hel i hi y hy
        obtain ⟨kA, comp, r1', r2', r3', -⟩ := (hK.2 t _ ht).2
        cases hk0.symm.trans r1'
        cases hkk0.symm.trans r2'
        obtain ⟨kE, hkE, -⟩ := Vm.findClass_spec r3'
        obtain ⟨kC', hkC', -⟩ := hal.2.2 _ _ hkC
        obtain ⟨kE', hkE', -⟩ := hal.2.2 _ _ hkE
        refine ⟨rfl, cellV, (show T.heap[y]? = some cellV by rw [hT]; exact g1), (fun q h => by rw [h] at g2; cases g2), ⟨kC', hkC'⟩, ?_, ?_⟩
        · exact ⟨kE', hkE'⟩
        · show vm₁.assignable _ _ = true
          rw [hal.assignable]
          exact hasg _ r3')
    (g := F0 m pc ls (.int (iI (n0 : Int)) :: .int (iI 0) :: .ref (ad r1) :: .int (iI 0) :: .ref (ad r0) :: rest)) rfl (by rw [hml]) (rest := rest) rfl (by rw [hb]; exact hdg) hframes (by show 2 * 0 + _ + _ ≤ _; omega)
  have e1 : copied (vp_cell (E t) (n0, ar f)) (vp_cell (E t) (n1, ar (fun _ => none))) (iI 0) (iI 0) (iI (n0 : Int)) = vp_cell (E t) (n1, ar (fun j => if j < n0 then f j else none)) := by
    rw [ar, ar, ar, vp_cell_q, vp_cell_q, vp_cell_q]
    refine (va_copied (fun z => va_rf z) (E t) (E t) f (fun _ => none) (by rw [hcl]; show 0 + n0 ≤ n0; omega)).trans ?_
    rw [hcl, show (iI 0).toNatClampNeg = 0 from rfl]
    congr 1
    funext j
    unfold va_cpy
    by_cases c : j < n0
    · rw [if_pos ⟨Nat.zero_le _, by omega⟩, if_pos c, Nat.zero_add, Nat.sub_zero]
    · rw [if_neg (fun q => c (by have := q.2; omega)), if_neg c]
  rw [e1] at X' step
  have hl : ad r1 < H.size := (Array.getElem?_eq_some_iff.mp hc1).1
  have hheap : ((T.setVm vm').setCell (ad r1) (vp_cell (E t) (n1, ar (fun j => if j < n0 then f j else none)))).heap = H.setIfInBounds (ad r1) (vp_cell (E t) (n1, ar (fun j => if j < n0 then f j else none))) := by rw [← hT]; rfl
  have oq : ∀ q : Nat, q ≠ ad r1 → (H.setIfInBounds (ad r1) (vp_cell (E t) (n1, ar (fun j => if j < n0 then f j else none))))[q]? = H[q]? := fun q hq => by simp [Array.getElem?_setIfInBounds, Ne.symm hq]
  obtain ⟨t2, a1, b1⟩ := kk (va_up C r1 (.inl (E t, n1, ar (fun j => if j < n0 then f j else none)))) _ _ (by simp [va_up]) (fun q hq => by simp [va_up, hq]) (hG.set hV1 (by rw [show va_up C r1 (.inl (E t, n1, ar (fun j => if j < n0 then f j else none))) r1 = .inl (E t, n1, ar (fun j => if j < n0 then f j else none)) by simp [va_up]]; show (H.setIfInBounds (ad r1) _)[ad r1]? = some _; simp [Array.getElem?_setIfInBounds, hl]) oq (fun q _ hq => by simp [va_up, hq])) ⟨by simp; exact hS.1, fun q z1 z2 => by
      rw [oq q (fun e => z2 (by rw [e]; exact (hG r1 hV1).2.1))]
      exact hS.2.1 q z1 z2, fun q hq => by
      rcases List.mem_append.mp hq with h | h
      · exact hS.2.2 q h
      · obtain ⟨z, -, hz⟩ := List.mem_map.mp h
        rw [← hz]
        exact (hG r1 hV1).2.1⟩ _ hheap X'
  exact ⟨t2, step t2 a1, b1⟩
end AL
