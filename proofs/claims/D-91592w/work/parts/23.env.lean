/-! WHAT STANDS OUTSIDE: String constants by place, statics, words that don't ride; methods that change nothing -/
set_option maxRecDepth 100000
def strO : List (String × Nat × String) := [("ShipSwaysModel", 263, " work fin slope speed tick sick sea wet moved or and not "), ("ShipSways$Reader", 11, "work"), ("ShipSways$Reader", 13, "fin"), ("ShipSways$Reader", 21, "slope"), ("ShipSways$Reader", 23, "speed"), ("ShipSways$Reader", 25, "tick"), ("ShipSways$Reader", 27, "sick"), ("ShipSways$Reader", 29, "sea"), ("ShipSways$Reader", 31, "wet"), ("ShipSways$Reader", 33, "moved"), ("ShipSways$Reader", 88, "+-*/()[]<>=;"), ("ShipSways$Reader", 152, "not"), ("ShipSways$Reader", 150, "and"), ("ShipSways$Reader", 145, "or")]
def strZ : List (List Int) := [[32, 119, 111, 114, 107, 32, 102, 105, 110, 32, 115, 108, 111, 112, 101, 32, 115, 112, 101, 101, 100, 32, 116, 105, 99, 107, 32, 115, 105, 99, 107, 32, 115, 101, 97, 32, 119, 101, 116, 32, 109, 111, 118, 101, 100, 32, 111, 114, 32, 97, 110, 100, 32, 110, 111, 116, 32], [119, 111, 114, 107], [102, 105, 110], [115, 108, 111, 112, 101], [115, 112, 101, 101, 100], [116, 105, 99, 107], [115, 105, 99, 107], [115, 101, 97], [119, 101, 116], [109, 111, 118, 101, 100], [43, 45, 42, 47, 40, 41, 91, 93, 60, 62, 61, 59], [110, 111, 116], [97, 110, 100], [111, 114]]
def strL : List Nat := [57, 4, 3, 5, 5, 4, 4, 3, 3, 5, 12, 3, 3, 2]
def strB : List (List Int32) := strZ.map (fun x => x.map iI)
/-- the length of text i, its char at k -/
def sLn (i : Nat) : Int := (strL.getD i 0 : Nat)
def sCh (i : Nat) (k : Int) : Int := (strZ.getD i []).getD k.toNat 0
theorem strB_at (i j : Nat) : (strB.getD i []).getD j 0 = iI ((strZ.getD i []).getD j 0) := by
  unfold strB
  simp only [List.getD_eq_getElem?_getD, List.getElem?_map]
  cases strZ[i]? with
  | none => rfl
  | some x =>
    simp only [Option.map_some, Option.getD_some, List.getElem?_map]
    cases x[j]? <;> rfl
theorem sCh_bd (i : Nat) (k : Int) : 0 ≤ sCh i k ∧ sCh i k ≤ 127 := by
  have h : ∀ x ∈ strZ, ∀ y ∈ x, (0 : Int) ≤ y ∧ y ≤ 127 := by decide +kernel
  unfold sCh
  simp only [List.getD_eq_getElem?_getD]
  cases e1 : strZ[i]? with
  | none => simp
  | some x =>
    simp only [Option.getD_some]
    cases e2 : x[k.toNat]? with
    | none => simp
    | some y => exact h x (List.mem_of_getElem? e1) y (List.mem_of_getElem? e2)
theorem sLn_bd (i : Nat) : 0 ≤ sLn i ∧ sLn i ≤ 57 := by
  have h : ∀ x ∈ strL, x ≤ 57 := by decide +kernel
  unfold sLn
  simp only [List.getD_eq_getElem?_getD]
  cases e1 : strL[i]? with
  | none => simp
  | some x =>
    have := h x (List.mem_of_getElem? e1)
    simp only [Option.getD_some]
    omega
def isNw : Cond → Bool
  | .fieldLinkNest _ _ _ _ _ _ => true
  | .methodLinkNest _ _ _ _ => true
  | .castable _ _ => true
  | .declares _ => true
  | _ => false
def lw_nw : List Cond := lw_tbl.filter isNw
theorem nw_w {w : Cond} (h : w ∈ lw_tbl) (g : isNw w = true) : w ∈ lw_nw := List.mem_filter.mpr ⟨h, g⟩
theorem nw_warm {w : Cond} (g : isNw w = true) {s U : State} (hW : s.WarmedH U.vm) (h : va_Nw w s) : va_Nw w U := by
  unfold isNw at g
  split at g
  · exact va_Nw.warmF hW h
  · exact va_Nw.warmM hW h
  · exact va_Nw.warmC hW h
  · exact va_Nw.warmD hW h
  · cases g
theorem nw_same {w : Cond} (g : isNw w = true) {u U : State} (hv : u.vm = U.vm) (h : va_Nw w u) : va_Nw w U := by
  unfold isNw at g
  split at g
  · exact va_Nw.same rfl hv h
  · exact va_Nw.same rfl hv h
  · exact va_Nw.same rfl hv h
  · exact va_Nw.same rfl hv h
  · cases g
def AOA (t : FieldType) (U : State) : Prop := (Cond.arrayOver (.array t)).before #[] U = true
/-- what stands outside A: st 0 the formatter, 1 ArrayList's empty array, 2 SINES, 3 the mirror of Object[] -/
def EV (adK adV st : Nat → Nat) (A : Nat → Prop) (U : State) : Prop :=
  vk_S 14 strL strB adK adV A U U.heap ∧ (∀ (i : Nat) (q : String × Nat × String), strO[i]? = some q → vk_R q.1 q.2.1 q.2.2 (adK i) U) ∧
  (va_Z "java/lang/String" "COMPACT_STRINGS" "Z" (.int 1) A U U.heap ∧ va_Z "jdk/internal/util/Preconditions" "SIOOBE_FORMATTER" "Ljava/util/function/BiFunction;" (.ref (st 0)) A U U.heap ∧ va_Z "java/util/ArrayList" "DEFAULTCAPACITY_EMPTY_ELEMENTDATA" "[Ljava/lang/Object;" (.ref (st 1)) A U U.heap ∧ va_Z "ShipSways" "SINES" "[I" (.ref (st 2)) A U U.heap) ∧
  va_T .int (st 2) 16 (fun j => .int (iI (sin16 j))) A U U.heap ∧ (∀ w ∈ lw_nw, va_Nw w U) ∧
  (va_AO "java/lang/Object" U ∧ va_AO "java/lang/String" U ∧ va_AO "ShipSways$Mark" U ∧ AOA .int U ∧ AOA (.object "ShipSways$Mark") U) ∧ va_Mi "[Ljava/lang/Object;" (st 3) U
theorem EV.to {adK adV st : Nat → Nat} {A : Nat → Prop} {s U : State} (hW : s.WarmedH U.vm) (hk : ∀ a : Nat, a < s.heap.size → ¬ A a → U.heap[a]? = s.heap[a]?) (h : EV adK adV st A s) : EV adK adV st A U := by
  obtain ⟨h1, h2, ⟨z1, z2, z3, z4⟩, h4, h5, ⟨a1, a2, a3, a4, a5⟩, h7⟩ := h
  have hv := hW.alike
  exact ⟨(h1.moved hv).kept hk, fun i q hq => (h2 i q hq).warm hW, ⟨(z1.moved hv).kept hk, (z2.moved hv).kept hk, (z3.moved hv).kept hk, (z4.moved hv).kept hk⟩, (h4.moved hv).kept hk, fun w hw => nw_warm (List.mem_filter.mp hw).2 hW (h5 w hw), ⟨a1.moved hv, a2.moved hv, a3.moved hv, over_moved hv a4, over_moved hv a5⟩, h7.moved hv⟩
theorem EV.same {adK adV st : Nat → Nat} {A : Nat → Prop} {s U : State} (hv : s.vm = U.vm) (hh : U.heap = s.heap) (h : EV adK adV st A s) : EV adK adV st A U := by
  obtain ⟨h1, h2, ⟨z1, z2, z3, z4⟩, h4, h5, ⟨a1, a2, a3, a4, a5⟩, h7⟩ := h
  have hal : s.vm.Alike U.vm := by rw [hv]; exact Vm.Alike.refl _
  have hk : ∀ a : Nat, a < s.heap.size → ¬ A a → U.heap[a]? = s.heap[a]? := fun a _ _ => by rw [hh]
  exact ⟨(h1.moved hal).kept hk, fun i q hq => (h2 i q hq).same hv.symm, ⟨(z1.moved hal).kept hk, (z2.moved hal).kept hk, (z3.moved hal).kept hk, (z4.moved hal).kept hk⟩, (h4.moved hal).kept hk, fun w hw => nw_same (List.mem_filter.mp hw).2 hv (h5 w hw), ⟨a1.moved hal, a2.moved hal, a3.moved hal, over_moved hal a4, over_moved hal a5⟩, h7.moved hal⟩
theorem EV.blind {adK adV st : Nat → Nat} {A : Nat → Prop} (a : Array Value) (U : State) (g : JFrame) (mk : MethodId) (h : EV adK adV st A U) : EV adK adV st A (U.calling g mk a) := EV.same (s := U) (U := U.calling g mk a) rfl rfl h
theorem EV.at {adK adV st : Nat → Nat} {A : Nat → Prop} {s : State} {H : Heap} {locs : List Loc} (h : EV adK adV st A s) (hS : va_S A s.heap H locs) : ∀ U : State, U.heap = H → s.WarmedH U.vm → EV adK adV st A U := fun U hU hW => h.to hW (fun a h1 h2 => by rw [hU]; exact hS.2.1 a h1 h2)
/-- contract of a method that changes nothing; as: its arguments, the receiver first -/
def JM (l : Launch) (y : MethodName) (bytes : ByteArray) (maxL : Nat) (ret : Option FieldType) (rm : Room) (B : State → Prop) (as : List Value) (Qc : Array Value → State → Outcome → State → Prop) : Prop :=
  Met l y (ws_ y bytes maxL ret) rm (va_Pc as B) Qc 0 0 (fun _ => False)
theorem SM.jm {l : Launch} {y : MethodName} {bytes : ByteArray} {maxL : Nat} {ret : Option FieldType} {rm : Room} {as : List Value} {Qc : Array Value → State → Outcome → State → Prop} (h : SM l y bytes maxL ret rm as Qc) : JM l y bytes maxL ret rm (fun _ => True) as Qc := h
theorem j_start {l : Launch} {y : MethodName} {cc : ByteArray} {maxL : Nat} {ret : Option FieldType} {rm : Room} {B : State → Prop} {as : List Value} {Qc : Array Value → State → Outcome → State → Prop} {own : String} (hy : plainName y.cls = true) (hc : y.cls = own) (hlen : (lg_sl as).length ≤ maxL)
    (body : ∀ (p : Program) (e : Env) (R : Room) (s : State) (m : MethodId) (args : Array Value) (below : List Frame) (meth : Method) (c : Code) (ls : Array Slot) (Q : State → Prop), R = rm → MQ below Qc args s 0 0 (fun _ => False) = Q → SC p m c cc s args own → c.maxLocals = maxL → meth.sig.returnType = ret → meth.locks = false → B s → lv_has ls maxL (lv_args 0 as) → W p l e R s m args below meth c s.heap [] 0 0 Q (F0 m 0 ls [])) :
    JM l y cc maxL ret rm B as Qc := by
  refine Met.ofW (cc := cc) (maxL := maxL) (ret := ret) hy rfl ?_
  intro p e s m args below meth c s₁ B0 hml hv
  obtain ⟨rfl, hB⟩ := hv
  have hts := atoms_spec (ws := ws_ y cc maxL ret) B0.pre
  have hts : ∀ w ∈ lw_all, w.before _ s = true := fun w h => hts w (List.mem_cons_of_mem _ h)
  have hown : s.vm.findClass y.cls = some m.cls := findClass_of_methodNamed B0.named
  rw [hc] at hown
  have hl := lv_entry as (n := maxL) hlen
  rw [lg_entry_eq]
  exact body p e rm s m _ below meth c _ _ rfl rfl ⟨B0.exec, B0.bytes, hown, hts⟩ hml B0.returns B0.notSynchronized hB hl
section JK
variable {p : Program} {l : Launch} {e : Env} {R : Room} {s : State} {m : MethodId} {args : Array Value} {below : List Frame} {meth : Method} {c : Code} {H : Heap} {locs : List Loc} {cells slots : Nat} {Q : State → Prop}
variable {cc : ByteArray} {pc : Nat} {ls : Array Slot} {rest st0 : List Value} {A : Nat → Prop} {adK adV st : Nat → Nat}
variable {y : MethodName} {bytes : ByteArray} {maxL nL n index : Nat} {ret : Option FieldType} {rm rmc : Room} {as : List Value} {B : State → Prop}
theorem j_runS {own : String} (hx : p.tables.exec = Jvm.exec) (hb : c.code = cc) (hml : c.maxLocals = nL) (hown : s.vm.findClass own = some m.cls) (hts : ∀ w ∈ lw_all, w.before args s = true) {Qc : Array Value → State → Outcome → State → Prop} (hMet : JM l y bytes maxL ret rm B as Qc) (hbl : ∀ a U g mk, B U → B (U.calling g mk a)) (hB : ∀ U : State, U.heap = H → s.WarmedH U.vm → B U)
    (h1 : Cond.methodLink own index y ∈ lw_all) (h2 : Cond.static y ∈ lw_all) (h3 : Cond.initialized y.cls ∈ lw_all) (h4 : Cond.code y bytes maxL ret ∈ lw_all)
    (hd : y.cls ≠ "java/lang/invoke/MethodHandle" ∧ y.cls ≠ "java/lang/invoke/VarHandle" ∧ (parseMethodDescriptor y.desc).map (fun d => d.parameters.length) = some n) (hrm : rm.cells = 0 ∧ rm.slots = 0) (hR : R = rmc) (hRR : rm.frames + 1 ≤ rmc.frames ∧ 8 + (maxL + 11) + rm.locals ≤ rmc.locals) (hcs : cells ≤ R.cells ∧ slots ≤ R.slots)
    (hlen : as.length = n) (hsz : ls.size = nL) (hst : st0 = as.reverse ++ rest) (hcat : (rest.map fun v => v.category).sum ≤ 8) (hdg : decode cc pc = .ok (.invokestatic index, 3)) :
    CallRun p l e R s m args below meth c H locs cells slots 0 0 (F0 m pc ls st0) rest (Qc as.toArray) (fun _ => False) := by
  subst hR
  exact W.runS (As := as) (rest := rest) ⟨hx, hb, hml, hown, hts⟩ hMet (va_cwS n hts (lw_S h1 h2 h3 h4) rfl hrm.1 hrm.2 hd hRR) ⟨fun a U g mk q => ⟨q.1, hbl a U g mk q.2⟩, fun U hU hW => ⟨rfl, hB U hU hW⟩⟩ rfl hlen hsz hst (lv_room hcat) hdg ⟨hcs.1, hcs.2⟩
theorem j_runV {own C : String} {b : Nat} (hx : p.tables.exec = Jvm.exec) (hb : c.code = cc) (hml : c.maxLocals = nL) (hown : s.vm.findClass own = some m.cls) (hts : ∀ w ∈ lw_all, w.before args s = true) {Qc : Array Value → State → Outcome → State → Prop} (hMet : JM l y bytes maxL ret rm B (.ref b :: as) Qc) (hbl : ∀ a U g mk, B U → B (U.calling g mk a)) (hB : ∀ U : State, U.heap = H → s.WarmedH U.vm → B U)
    (hrec : ∃ cell : Cell, H[b]? = some cell ∧ cell.vm.isStatics = false ∧ s.vm.findClass C = some cell.cls)
    (h1 : Cond.methodLink own index y ∈ lw_all) (h2 : Cond.instanceMethod y ∈ lw_all) (h3 : Cond.selects C y y ∈ lw_all) (h4 : Cond.initialized C ∈ lw_all) (h5 : Cond.code y bytes maxL ret ∈ lw_all)
    (hd : y.cls = C ∧ y.cls ≠ "java/lang/invoke/MethodHandle" ∧ y.cls ≠ "java/lang/invoke/VarHandle" ∧ (parseMethodDescriptor y.desc).map (fun d => d.parameters.length) = some n) (hrm : rm.cells = 0 ∧ rm.slots = 0) (hR : R = rmc) (hRR : rm.frames + 1 ≤ rmc.frames ∧ 8 + (maxL + 11) + rm.locals ≤ rmc.locals) (hcs : cells ≤ R.cells ∧ slots ≤ R.slots)
    (hlen : as.length = n) (hsz : ls.size = nL) (hst : st0 = as.reverse ++ .ref b :: rest) (hcat : (rest.map fun v => v.category).sum ≤ 8) (hdg : decode cc pc = .ok (.invokevirtual index, 3)) :
    CallRun p l e R s m args below meth c H locs cells slots 0 0 (F0 m pc ls st0) rest (Qc (Value.ref b :: as).toArray) (fun _ => False) := by
  subst hR
  exact W.runV (C := C) (As := as) (rest := rest) ⟨hx, hb, hml, hown, hts⟩ hMet (cwV n hts (lw_V h1 h2 h3 h4 h5) rfl hrm.1 hrm.2 hd hRR) ⟨fun a U g mk q => ⟨q.1, hbl a U g mk q.2⟩, hrec, fun U hU hW => ⟨rfl, hB U hU hW⟩⟩ rfl hlen hsz hst (lv_room hcat) hdg ⟨hcs.1, hcs.2⟩
def vp_Sv : Array Value → State → Outcome → State → Prop := fun _ st o t => o = .returned none ∧ t.heap = st.heap
theorem j_callv {a : Array Value} (hr : CallRun p l e R s m args below meth c H locs cells slots 0 0 (F0 m pc ls st0) rest (vp_Sv a) (fun _ => False)) (kk : W p l e R s m args below meth c H locs cells slots Q (F0 m (pc + 3) ls rest)) : W p l e R s m args below meth c H locs cells slots Q (F0 m pc ls st0) := by
  intro T hT X
  obtain ⟨v, st₀, t, T', L, h0, X', hL, e1, ⟨hv, hh⟩, st⟩ := hr T hT X
  cases hv
  obtain ⟨t2, a1, b1⟩ := kk T' (by rw [e1, hh, h0]) (Stand.forget X' (fun q h => (hL q h).elim))
  exact ⟨t2, st t2 a1, b1⟩
theorem j_iret {own : String} (hC : SC p m c cc s args own) {z : Int} (hr : meth.sig.returnType = some .int) (hlk : meth.locks = false) {z' : Int} (hQ : MQ below (vp_Si (fun r => r = iI z')) args s cells slots (fun _ => False) = Q) (hdg : decode cc pc = .ok (.ireturn, 1)) (hp : z = z') : W p l e R s m args below meth c s.heap [] cells slots Q (F0 m pc ls [.int (iI z)]) := s_iret hC hr hlk hQ hdg hp
theorem j_vret {own : String} (hC : SC p m c cc s args own) (hr : meth.sig.returnType = none) (hlk : meth.locks = false) (hQ : MQ below vp_Sv args s cells slots (fun _ => False) = Q) (hdg : decode cc pc = .ok (.return_, 1)) : W p l e R s m args below meth c s.heap [] cells slots Q (F0 m pc ls []) := by
  subst hQ
  exact W.vret hC.1 hC.2.1 hr (fun t ht hW => ⟨rfl, ht⟩) (fun _ h => by cases h) hdg
theorem j_nret {own : String} {ty : FieldType} (hC : SC p m c cc s args own) {z : Int} (hr : meth.sig.returnType = some ty) (hlk : meth.locks = false) {z' : Int} (hn : narrow ty (.int (iI z)) = .int (iI z)) (hQ : MQ below (vp_Si (fun r => r = iI z')) args s cells slots (fun _ => False) = Q) (hdg : decode cc pc = .ok (.ireturn, 1)) (hp : z = z') : W p l e R s m args below meth c s.heap [] cells slots Q (F0 m pc ls [.int (iI z)]) := by
  subst hQ; subst hp
  exact W.zret (v := iI z) hC.1 hC.2.1 hr hn (fun t ht hW => ⟨iI z, rfl, rfl, ht⟩) (fun _ h => by cases h) hdg
/-- text i's fields, its bytes -/
theorem e_val (hx : p.tables.exec = Jvm.exec) (hb : c.code = cc) (hE : EV adK adV st A s) (hS : va_S A s.heap H locs) {i : Nat} (hi : i < 14) {own : String} (hown : s.vm.findClass own = some m.cls) (hlink : (Cond.fieldLink own index "java/lang/String" "value" "[B").before args s = true) (hdg : decode cc pc = .ok (.getfield index, 3)) (kk : W p l e R s m args below meth c H locs cells slots Q (F0 m (pc + 3) ls (.ref (adV i) :: rest))) : W p l e R s m args below meth c H locs cells slots Q (F0 m pc ls (.ref (adK i) :: rest)) := vk_getf hx hb (hE.1.1 i hi).2.2.1 hS hown hlink (fun x h => h) hdg kk
theorem e_cod (hx : p.tables.exec = Jvm.exec) (hb : c.code = cc) (hE : EV adK adV st A s) (hS : va_S A s.heap H locs) {i : Nat} (hi : i < 14) {own : String} (hown : s.vm.findClass own = some m.cls) (hlink : (Cond.fieldLink own index "java/lang/String" "coder" "B").before args s = true) (hdg : decode cc pc = .ok (.getfield index, 3)) (kk : W p l e R s m args below meth c H locs cells slots Q (F0 m (pc + 3) ls (.int (iI 0) :: rest))) : W p l e R s m args below meth c H locs cells slots Q (F0 m pc ls (.ref (adK i) :: rest)) := vk_getf hx hb (hE.1.1 i hi).2.1 hS hown hlink (fun x h => h) hdg kk
theorem e_len (hx : p.tables.exec = Jvm.exec) (hb : c.code = cc) (hE : EV adK adV st A s) (hS : va_S A s.heap H locs) {i : Nat} (hi : i < 14) (hdg : decode cc pc = .ok (.arraylength, 1)) (kk : W p l e R s m args below meth c H locs cells slots Q (F0 m (pc + 1) ls (.int (iI (sLn i)) :: rest))) : W p l e R s m args below meth c H locs cells slots Q (F0 m pc ls (.ref (adV i) :: rest)) := va_tlen hx hb (hE.1.1 i hi).2.2.2 hS (iI_nat _) hdg kk
theorem e_byt (hx : p.tables.exec = Jvm.exec) (hb : c.code = cc) (hE : EV adK adV st A s) (hS : va_S A s.heap H locs) {i : Nat} (hi : i < 14) {k : Int} (hk : 0 ≤ k ∧ k < sLn i) (hdg : decode cc pc = .ok (.baload, 1)) (kk : W p l e R s m args below meth c H locs cells slots Q (F0 m (pc + 1) ls (.int (iI (sCh i k)) :: rest))) : W p l e R s m args below meth c H locs cells slots Q (F0 m pc ls (.int (iI k) :: .ref (adV i) :: rest)) := by
  have hl := sLn_bd i
  refine va_tb hx hb (hE.1.1 i hi).2.2.2 hS (iI_in hk.1 (show k < ((strL.getD i 0 : Nat) : Int) from hk.2) (by have : ((strL.getD i 0 : Nat) : Int) ≤ 57 := hl.2; omega)) (v := .int (iI (sCh i k))) ?_ hdg kk
  rw [iI_cl ⟨by omega, by omega⟩]
  show Value.int ((strB.getD i []).getD k.toNat 0) = _
  rw [strB_at]
  rfl
theorem e_str (hx : p.tables.exec = Jvm.exec) (hb : c.code = cc) (hE : EV adK adV st A s) {i : Nat} {own tx : String} (ho : strO[i]? = some (own, index, tx)) (hown : s.vm.findClass own = some m.cls) (hdg : decode cc pc = .ok (.ldc index, 2)) (kk : W p l e R s m args below meth c H locs cells slots Q (F0 m (pc + 2) ls (.ref (adK i) :: rest))) : W p l e R s m args below meth c H locs cells slots Q (F0 m pc ls rest) := va_ldcS hx hb hown (hE.2.1 i _ ho) hdg kk
theorem e_strW (hx : p.tables.exec = Jvm.exec) (hb : c.code = cc) (hE : EV adK adV st A s) {i : Nat} {own tx : String} (ho : strO[i]? = some (own, index, tx)) (hown : s.vm.findClass own = some m.cls) (hdg : decode cc pc = .ok (.ldc_w index, 3)) (kk : W p l e R s m args below meth c H locs cells slots Q (F0 m (pc + 3) ls (.ref (adK i) :: rest))) : W p l e R s m args below meth c H locs cells slots Q (F0 m pc ls rest) := by
  have hZ := hE.2.1 i _ ho
  intro T hT X
  obtain ⟨t, a1, b1⟩ := kk T hT X
  exact ⟨t, X.ldcStringW hx hown (text := tx) (a := adK i) hZ.1 hZ.2 (g := F0 m pc ls rest) rfl (by rw [hb]; exact hdg) t a1, b1⟩
theorem e_rec (hE : EV adK adV st A s) (hS : va_S A s.heap H locs) {i : Nat} (hi : i < 14) : ∃ cell : Cell, H[adK i]? = some cell ∧ cell.vm.isStatics = false ∧ s.vm.findClass "java/lang/String" = some cell.cls := vk_recv hE.1 hi hS
def i16 (z : Int) : Int := ((iI z).toUInt32 % 65536).toInt32.toInt
theorem r_i2c {a : Int} (hx : p.tables.exec = Jvm.exec) (hb : c.code = cc) (hdg : decode cc pc = .ok (.i2c, 1)) (k : W p l e R s m args below meth c H locs cells slots Q (F0 m (pc + 1) ls (.int (iI (i16 a)) :: rest))) : W p l e R s m args below meth c H locs cells slots Q (F0 m pc ls (.int (iI a) :: rest)) := lv_i2c hx hb hdg (v := iI (i16 a)) (by rw [i16, iI_of]) k
end JK
theorem ch_low : ∀ n : Nat, n < 128 → andZ n 255 = n ∧ i16 n = n ∧ b8 n = n ∧ narrow .char (.int (iI n)) = .int (iI n) := by decide +kernel
theorem ch_z {z : Int} (h : 0 ≤ z ∧ z ≤ 127) : andZ z 255 = z ∧ i16 z = z ∧ b8 z = z ∧ narrow .char (.int (iI z)) = .int (iI z) := by
  have := ch_low z.toNat (by omega)
  rw [show ((z.toNat : Nat) : Int) = z by omega] at this
  exact this
theorem shr_0 : ∀ n : Nat, n < 58 → shrZ n 0 = n := by decide +kernel
theorem shr_z {z : Int} (h : 0 ≤ z ∧ z ≤ 57) : shrZ z 0 = z := by
  have := shr_0 z.toNat (by omega)
  rw [show ((z.toNat : Nat) : Int) = z by omega] at this
  exact this
