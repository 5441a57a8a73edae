/-! THE COMPONENT: contracts of methods that change it -/
set_option maxRecDepth 100000

abbrev CSt : Type := (Nat → Int) × (Nat → Int → Int) × (Nat → Nat → Int) × (Nat → Int → Int)
def CBk (D : va_G) (E : Nat → ClassId) (A : Nat → Prop) (ad nv L : Nat → Nat) (u : CSt) (t : State) : Prop := va_K D clAll (tyAll E) t ∧ CW D E A ad nv u.1 u.2.1 u.2.2.1 u.2.2.2 L t.heap
def CQi (D : va_G) (E : Nat → ClassId) (A : Nat → Prop) (ad nv L : Nat → Nat) (post : Int → (Nat → Int) → (Nat → Int → Int) → (Nat → Nat → Int) → (Nat → Int → Int) → Prop) : Array Value → State → Outcome → State → Prop := va_Qi (S := CSt) (fun r u => ∃ z, r = iI z ∧ post z u.1 u.2.1 u.2.2.1 u.2.2.2) (CBk D E A ad nv L) A
def CQv (D : va_G) (E : Nat → ClassId) (A : Nat → Prop) (ad nv L : Nat → Nat) (post : (Nat → Int) → (Nat → Int → Int) → (Nat → Nat → Int) → (Nat → Int → Int) → Prop) : Array Value → State → Outcome → State → Prop := va_Qv (S := CSt) (fun u => post u.1 u.2.1 u.2.2.1 u.2.2.2) (CBk D E A ad nv L) A
def CM (l : Launch) (y : MethodName) (bytes : ByteArray) (maxL : Nat) (ret : Option FieldType) (rm : Room) (adK adV st : Nat → Nat) (D : va_G) (E : Nat → ClassId) (A : Nat → Prop) (ad nv : Nat → Nat) (as : List Value) (I : Nat → Int) (F : Nat → Int → Int) (S : Nat → Nat → Int) (Y : Nat → Int → Int) (L : Nat → Nat) (Qc : Array Value → State → Outcome → State → Prop) : Prop :=
  Met l y (ws_ y bytes maxL ret) rm (va_Pc as (CX adK adV st D E A ad nv I F S Y L)) Qc 0 0 A
theorem c_start {l : Launch} {y : MethodName} {cc : ByteArray} {maxL : Nat} {ret : Option FieldType} {rm : Room} {adK adV st : Nat → Nat} {D : va_G} {E : Nat → ClassId} {A : Nat → Prop} {ad nv : Nat → Nat} {as : List Value} {I : Nat → Int} {F : Nat → Int → Int} {S : Nat → Nat → Int} {Y : Nat → Int → Int} {L : Nat → Nat} {Qc : Array Value → State → Outcome → State → Prop} {own : String} (hy : plainName y.cls = true) (hc : y.cls = own) (hlen : (lg_sl as).length ≤ maxL)
    (body : ∀ (p : Program) (e : Env) (R : Room) (s : State) (m : MethodId) (args : Array Value) (below : List Frame) (meth : Method) (c : Code) (ls : Array Slot) (Q : State → Prop), R = rm → MQ below Qc args s 0 0 A = Q → CK p m c cc s args own D E → c.maxLocals = maxL → meth.sig.returnType = ret → meth.locks = false → CW D E A ad nv I F S Y L s.heap → va_S A s.heap s.heap [] → EV adK adV st A s → lv_has ls maxL (lv_args 0 as) → W p l e R s m args below meth c s.heap [] 0 0 Q (F0 m 0 ls [])) :
    CM l y cc maxL ret rm adK adV st D E A ad nv as I F S Y L Qc := by
  refine Met.ofW (cc := cc) (maxL := maxL) (ret := ret) hy rfl ?_
  intro p e s m args below meth c s₁ B hml hv
  obtain ⟨rfl, hK, hM, hE⟩ := hv
  have hts := atoms_spec (ws := ws_ y cc maxL ret) B.pre
  have hts : ∀ w ∈ lw_all, w.before _ s = true := fun w h => hts w (List.mem_cons_of_mem _ h)
  have hown : s.vm.findClass y.cls = some m.cls := findClass_of_methodNamed B.named
  rw [hc] at hown
  have hl := lv_entry as (n := maxL) hlen
  rw [lg_entry_eq]
  exact body p e rm s m _ below meth c _ _ rfl rfl ⟨B.exec, B.bytes, hown, hts, hK⟩ hml B.returns B.notSynchronized hM va_S.rf hE hl
section CKK
variable {p : Program} {l : Launch} {e : Env} {R : Room} {s : State} {m : MethodId} {args : Array Value} {below : List Frame} {meth : Method} {c : Code} {H : Heap} {locs : List Loc} {cells slots : Nat} {Q : State → Prop}
variable {cc : ByteArray} {pc : Nat} {ls : Array Slot} {rest st0 : List Value} {D : va_G} {E : Nat → ClassId} {A V : Nat → Prop} {ad nv : Nat → Nat} {C : Nat → va_E} {H0 : Heap} {own : String} {adK adV st : Nat → Nat}
variable {I : Nat → Int} {F : Nat → Int → Int} {S : Nat → Nat → Int} {Y : Nat → Int → Int} {L : Nat → Nat}
variable {y : MethodName} {bytes : ByteArray} {maxL nL n index b : Nat} {ret : Option FieldType} {rm rmc : Room} {as : List Value} {C0 : String}
theorem c_iret (hC : CK p m c cc s args own D E) {post : Int → (Nat → Int) → (Nat → Int → Int) → (Nat → Nat → Int) → (Nat → Int → Int) → Prop} (hQ : MQ below (CQi D E A ad nv L post) args s cells slots A = Q) (hr : meth.sig.returnType = some .int) (hlk : meth.locks = false) (hG : CW D E A ad nv I F S Y L H) (hS : va_S A s.heap H locs) {z : Int} (hdg : decode cc pc = .ok (.ireturn, 1)) (hp : post z I F S Y) : W p l e R s m args below meth c H locs cells slots Q (F0 m pc ls [.int (iI z)]) := by
  subst hQ
  exact W.iret (v := iI z) hC.1 hC.2.1 hr (fun t ht hW => ⟨⟨iI z, (I, F, S, Y), rfl, ⟨z, rfl, hp⟩, va_K.moved hW.alike hC.2.2.2.2, by rw [ht]; exact hG⟩, hS.F ht⟩) hS.2.2 hdg
theorem c_zret (hC : CK p m c cc s args own D E) {post : Int → (Nat → Int) → (Nat → Int → Int) → (Nat → Nat → Int) → (Nat → Int → Int) → Prop} (hQ : MQ below (CQi D E A ad nv L post) args s cells slots A = Q) (hr : meth.sig.returnType = some .boolean) (hlk : meth.locks = false) (hG : CW D E A ad nv I F S Y L H) (hS : va_S A s.heap H locs) {z : Int} (hz : z = 0 ∨ z = 1) (hdg : decode cc pc = .ok (.ireturn, 1)) (hp : post z I F S Y) : W p l e R s m args below meth c H locs cells slots Q (F0 m pc ls [.int (iI z)]) := by
  subst hQ
  exact W.zret (v := iI z) hC.1 hC.2.1 hr (nar_bool hz) (fun t ht hW => ⟨⟨iI z, (I, F, S, Y), rfl, ⟨z, rfl, hp⟩, va_K.moved hW.alike hC.2.2.2.2, by rw [ht]; exact hG⟩, hS.F ht⟩) hS.2.2 hdg
theorem c_vret (hC : CK p m c cc s args own D E) {post : (Nat → Int) → (Nat → Int → Int) → (Nat → Nat → Int) → (Nat → Int → Int) → Prop} (hQ : MQ below (CQv D E A ad nv L post) args s cells slots A = Q) (hr : meth.sig.returnType = none) (hlk : meth.locks = false) (hG : CW D E A ad nv I F S Y L H) (hS : va_S A s.heap H locs) (hdg : decode cc pc = .ok (.return_, 1)) (hp : post I F S Y) : W p l e R s m args below meth c H locs cells slots Q (F0 m pc ls []) := by
  subst hQ
  exact W.vret hC.1 hC.2.1 hr (fun t ht hW => ⟨⟨(I, F, S, Y), rfl, hp, va_K.moved hW.alike hC.2.2.2.2, by rw [ht]; exact hG⟩, hS.F ht⟩) hS.2.2 hdg
theorem c_run (hC : CK p m c cc s args own D E) (hE : EV adK adV st A s) (hml : c.maxLocals = nL) {Qc : Array Value → State → Outcome → State → Prop} (hMet : CM l y bytes maxL ret rm adK adV st D E A ad nv (.ref b :: as) I F S Y L Qc)
    (hrec : ∃ cell : Cell, H[b]? = some cell ∧ cell.vm.isStatics = false ∧ s.vm.findClass C0 = some cell.cls)
    (h1 : Cond.methodLink own index y ∈ lw_all) (h2 : Cond.instanceMethod y ∈ lw_all) (h3 : Cond.selects C0 y y ∈ lw_all) (h4 : Cond.initialized C0 ∈ lw_all) (h5 : Cond.code y bytes maxL ret ∈ lw_all)
    (hd : y.cls = C0 ∧ y.cls ≠ "java/lang/invoke/MethodHandle" ∧ y.cls ≠ "java/lang/invoke/VarHandle" ∧ (parseMethodDescriptor y.desc).map (fun d => d.parameters.length) = some n) (hrm : rm.cells = 0 ∧ rm.slots = 0) (hR : R = rmc) (hRR : rm.frames + 1 ≤ rmc.frames ∧ 8 + (maxL + 11) + rm.locals ≤ rmc.locals) (hcs : cells ≤ R.cells ∧ slots ≤ R.slots)
    (hG : CW D E A ad nv I F S Y L H) (hS : va_S A s.heap H locs) (hlen : as.length = n) (hsz : ls.size = nL) (hst : st0 = as.reverse ++ .ref b :: rest) (hcat : (rest.map fun v => v.category).sum ≤ 8) (hdg : decode cc pc = .ok (.invokevirtual index, 3)) :
    va_Run p l e R s m args below meth c H locs cells slots 0 0 (F0 m pc ls st0) rest (Qc (Value.ref b :: as).toArray) A := by
  subst hR
  exact va_runV (C := C0) (As := as) (rest := rest) ⟨hC.1, hC.2.1, hml, hC.2.2.1, hC.2.2.2.1⟩ hMet (cwV n hC.2.2.2.1 (lw_V h1 h2 h3 h4 h5) rfl hrm.1 hrm.2 hd hRR) ⟨fun a U g mk q => ⟨q.1, GB.blind a U g mk q.2⟩, hrec, fun U hU hW => ⟨rfl, GB.at hC.2.2.2.2 hG hE hS U hU hW⟩⟩ rfl hlen hsz hst (lv_room hcat) hdg ⟨hcs.1, hcs.2⟩
theorem c_calli {post : Int → (Nat → Int) → (Nat → Int → Int) → (Nat → Nat → Int) → (Nat → Int → Int) → Prop} {a : Array Value} (hr : va_Run p l e R s m args below meth c H locs cells slots 0 0 (F0 m pc ls st0) rest (CQi D E A ad nv L post a) A) (hS : va_S A s.heap H locs)
    (kk : ∀ (z : Int) (I1 : Nat → Int) (F1 : Nat → Int → Int) (S1 : Nat → Nat → Int) (Y1 : Nat → Int → Int) (H1 : Heap) (locs1 : List Loc), post z I1 F1 S1 Y1 → CW D E A ad nv I1 F1 S1 Y1 L H1 → va_S A s.heap H1 locs1 → W p l e R s m args below meth c H1 locs1 cells slots Q (F0 m (pc + 3) ls (.int (iI z) :: rest))) : W p l e R s m args below meth c H locs cells slots Q (F0 m pc ls st0) := by
  refine va_calli hr hS (fun q _ h => h) (fun q h => h) (fun r u t H1 locs1 ht hvm hw hB hz1 hk1 hS1 => ?_)
  obtain ⟨z, rfl, hp⟩ := hw
  exact kk z u.1 u.2.1 u.2.2.1 u.2.2.2 H1 locs1 hp (by rw [← ht]; exact hB.2) hS1
theorem c_callv {post : (Nat → Int) → (Nat → Int → Int) → (Nat → Nat → Int) → (Nat → Int → Int) → Prop} {a : Array Value} (hr : va_Run p l e R s m args below meth c H locs cells slots 0 0 (F0 m pc ls st0) rest (CQv D E A ad nv L post a) A) (hS : va_S A s.heap H locs)
    (kk : ∀ (I1 : Nat → Int) (F1 : Nat → Int → Int) (S1 : Nat → Nat → Int) (Y1 : Nat → Int → Int) (H1 : Heap) (locs1 : List Loc), post I1 F1 S1 Y1 → CW D E A ad nv I1 F1 S1 Y1 L H1 → va_S A s.heap H1 locs1 → W p l e R s m args below meth c H1 locs1 cells slots Q (F0 m (pc + 3) ls rest)) : W p l e R s m args below meth c H locs cells slots Q (F0 m pc ls st0) := by
  refine va_callv hr hS (fun q _ h => h) (fun q h => h) (fun u t H1 locs1 ht hvm hw hB hz1 hk1 hS1 => ?_)
  exact kk u.1 u.2.1 u.2.2.1 u.2.2.2 H1 locs1 hw (by rw [← ht]; exact hB.2) hS1
theorem j_runSN {host : String} {B : State → Prop} (hx : p.tables.exec = Jvm.exec) (hb : c.code = cc) (hml : c.maxLocals = nL) (hown : s.vm.findClass own = some m.cls) (hts : ∀ w ∈ lw_all, w.before args s = true) (hE : EV adK adV st A s) {Qc : Array Value → State → Outcome → State → Prop} (hMet : JM l y bytes maxL ret rm B as Qc) (hbl : ∀ a U g mk, B U → B (U.calling g mk a)) (hB : ∀ U : State, U.heap = H → s.WarmedH U.vm → B U)
    (h1 : Cond.methodLinkNest own index y host ∈ lw_tbl) (h2 : Cond.static y ∈ lw_all) (h4 : Cond.initialized y.cls ∈ lw_all) (h5 : Cond.code y bytes maxL ret ∈ lw_all)
    (hd : y.cls ≠ "java/lang/invoke/MethodHandle" ∧ y.cls ≠ "java/lang/invoke/VarHandle" ∧ (parseMethodDescriptor y.desc).map (fun d => d.parameters.length) = some n) (hrm : rm.cells = 0 ∧ rm.slots = 0) (hR : R = rmc) (hRR : rm.frames + 1 ≤ rmc.frames ∧ 8 + (maxL + 11) + rm.locals ≤ rmc.locals) (hcs : cells ≤ R.cells ∧ slots ≤ R.slots)
    (hlen : as.length = n) (hsz : ls.size = nL) (hst : st0 = as.reverse ++ rest) (hcat : (rest.map fun v => v.category).sum ≤ 8) (hdg : decode cc pc = .ok (.invokestatic index, 3)) :
    CallRun p l e R s m args below meth c H locs cells slots 0 0 (F0 m pc ls st0) rest (Qc as.toArray) (fun _ => False) := by
  subst hR
  exact (va_runSN (As := as) (rest := rest) ⟨hx, hb, hml, hown, hts⟩ hMet ⟨va_cnB n hts (lw_meth h5) rfl hrm.1 hrm.2 (hE.2.2.2.2.1 _ (nw_w h1 rfl)) (hts _ h4) hd hRR, hts _ h2, trivial⟩ ⟨fun a U g mk q => ⟨q.1, hbl a U g mk q.2⟩, fun U hU hW => ⟨rfl, hB U hU hW⟩⟩ rfl hlen hsz hst (lv_room hcat) hdg ⟨hcs.1, hcs.2⟩).run
end CKK
