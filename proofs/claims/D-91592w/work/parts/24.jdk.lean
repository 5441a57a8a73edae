/-! THE JDK: Math, String -/
set_option maxRecDepth 100000

/-- contract of a method of the Model that reads constants outside -/
def ME (l : Launch) (y : MethodName) (bytes : ByteArray) (maxL : Nat) (ret : Option FieldType) (rm : Room) (adK adV st : Nat → Nat) (D : va_G) (E : Nat → ClassId) (A : Nat → Prop) (h : Nat) (ad : Nat → Nat) (as : List Value) (I : Nat → Int) (F : Nat → Int → Int) (Qc : Array Value → State → Outcome → State → Prop) : Prop :=
  Met l y (ws_ y bytes maxL ret) rm (va_Pc (.ref h :: as) (fun U => MB D E A h ad (I, F) U ∧ EV adK adV st A U)) Qc 0 0 A
theorem m_startE {l : Launch} {y : MethodName} {cc : ByteArray} {maxL : Nat} {ret : Option FieldType} {rm : Room} {adK adV st : Nat → Nat} {D : va_G} {E : Nat → ClassId} {A : Nat → Prop} {h : Nat} {ad : Nat → Nat} {as : List Value} {I : Nat → Int} {F : Nat → Int → Int} {Qc : Array Value → State → Outcome → State → Prop} (hy : plainName y.cls = true) (hc : y.cls = RX2) (hlen : (lg_sl (.ref h :: as)).length ≤ maxL)
    (body : ∀ (p : Program) (e : Env) (R : Room) (s : State) (m : MethodId) (args : Array Value) (below : List Frame) (meth : Method) (c : Code) (ls : Array Slot) (Q : State → Prop), R = rm → MQ below Qc args s 0 0 A = Q → MC p m c cc s args D E → c.maxLocals = maxL → meth.sig.returnType = ret → meth.locks = false → MW D E A h ad I F s.heap → va_S A s.heap s.heap [] → EV adK adV st A s → lv_has ls maxL (lv_args 0 (.ref h :: as)) → W p l e R s m args below meth c s.heap [] 0 0 Q (F0 m 0 ls [])) :
    ME l y cc maxL ret rm adK adV st D E A h ad as I F Qc := by
  refine Met.ofW (cc := cc) (maxL := maxL) (ret := ret) hy rfl ?_
  intro p e s m args below meth c s₁ B hml hv
  obtain ⟨rfl, ⟨hK, hM⟩, hE⟩ := hv
  have hts := atoms_spec (ws := ws_ y cc maxL ret) B.pre
  have hts : ∀ w ∈ lw_all, w.before _ s = true := fun w h => hts w (List.mem_cons_of_mem _ h)
  have hown : s.vm.findClass y.cls = some m.cls := findClass_of_methodNamed B.named
  rw [hc] at hown
  have hl := lv_entry (.ref h :: as) (n := maxL) hlen
  rw [lg_entry_eq]
  exact body p e rm s m _ below meth c _ _ rfl rfl ⟨B.exec, B.bytes, hown, hts, hK⟩ hml B.returns B.notSynchronized hM va_S.rf hE hl
section MKE
variable {p : Program} {l : Launch} {e : Env} {R : Room} {s : State} {m : MethodId} {args : Array Value} {below : List Frame} {meth : Method} {c : Code} {H : Heap} {locs : List Loc} {cells slots : Nat} {Q : State → Prop}
variable {cc : ByteArray} {pc : Nat} {ls : Array Slot} {rest st0 : List Value} {D : va_G} {E : Nat → ClassId} {A : Nat → Prop} {h : Nat} {ad : Nat → Nat} {I : Nat → Int} {F : Nat → Int → Int} {adK adV st : Nat → Nat}
variable {y : MethodName} {bytes : ByteArray} {maxL nL n index : Nat} {ret : Option FieldType} {rm rmc : Room} {as : List Value}
theorem m_runE (hC : MC p m c cc s args D E) (hml : c.maxLocals = nL) {Qc : Array Value → State → Outcome → State → Prop} (hMet : ME l y bytes maxL ret rm adK adV st D E A h ad as I F Qc)
    (h1 : Cond.methodLink RX2 index y ∈ lw_all) (h2 : Cond.instanceMethod y ∈ lw_all) (h3 : Cond.selects RX2 y y ∈ lw_all) (h4 : Cond.initialized RX2 ∈ lw_all) (h5 : Cond.code y bytes maxL ret ∈ lw_all)
    (hd : y.cls = RX2 ∧ y.cls ≠ "java/lang/invoke/MethodHandle" ∧ y.cls ≠ "java/lang/invoke/VarHandle" ∧ (parseMethodDescriptor y.desc).map (fun d => d.parameters.length) = some n) (hrm : rm.cells = 0 ∧ rm.slots = 0) (hR : R = rmc) (hRR : rm.frames + 1 ≤ rmc.frames ∧ 8 + (maxL + 11) + rm.locals ≤ rmc.locals) (hcs : cells ≤ R.cells ∧ slots ≤ R.slots)
    (hM : MW D E A h ad I F H) (hE : EV adK adV st A s) (hS : va_S A s.heap H locs) (hlen : as.length = n) (hsz : ls.size = nL) (hst : st0 = as.reverse ++ .ref h :: rest) (hcat : (rest.map fun v => v.category).sum ≤ 8) (hdg : decode cc pc = .ok (.invokevirtual index, 3)) :
    va_Run p l e R s m args below meth c H locs cells slots 0 0 (F0 m pc ls st0) rest (Qc (Value.ref h :: as).toArray) A := by
  subst hR
  exact va_runV (As := as) (rest := rest) ⟨hC.1, hC.2.1, hml, hC.2.2.1, hC.2.2.2.1⟩ hMet (cwV n hC.2.2.2.1 (lw_V h1 h2 h3 h4 h5) rfl hrm.1 hrm.2 hd hRR) ⟨fun a U g mk q => ⟨q.1, (MB.blind (as := as) a U g mk ⟨q.1, q.2.1⟩).2, EV.blind a U g mk q.2.2⟩, va_recv hC.2.2.2.2 (va_P1 hM.1) (ci := 2) (q0 := 0) rfl rfl, fun U hU hW => ⟨rfl, ⟨va_K.moved hW.alike hC.2.2.2.2, by rw [hU]; exact hM⟩, hE.at hS U hU hW⟩⟩ rfl hlen hsz hst (lv_room hcat) hdg ⟨hcs.1, hcs.2⟩
end MKE
theorem ofWF {l : Launch} {y : MethodName} {ws ws1 : List Cond} {rm : Room} {Pc : Array Value → State → Prop} {Qc : Array Value → State → Outcome → State → Prop} {mc ms : Nat} {free : Addr → Prop} {cc : ByteArray} {maxL : Nat} {ret : Option FieldType}
    (hy : plainFor y = true) (hw : ws = Cond.code y cc maxL ret :: ws1)
    (body : ∀ p e s m args below meth c s₁, BodyLoose p l y (headSpec ws rm) cc maxL ret e s m args below meth c s₁ → c.maxLocals = maxL → Pc args s →
      W p l e (headSpec ws rm).room s m args below meth c s.heap [] 0 0 (MQ below Qc args s mc ms free) (entryFrame m args maxL)) : Met l y ws rm Pc Qc mc ms free := by
  refine MetFree.of_bodySF (code := cc) (maxLocals := maxL) (ret := ret) hy ?_ ?_
  · intro args s m h hn
    obtain ⟨meth, c, h1, h2, h3, h4, h5, h6, -, -⟩ := Cond.code_spec hn (atoms_spec (ws := ws) h _ (by rw [hw]; exact List.mem_cons_self))
    exact ⟨meth, c, h1, h2, h3, h4, h5, h6⟩
  · intro p e s m args below meth c s₁ B hml hP _
    have hh0 : s₁.heap = s.heap := by rw [B.state]; rfl
    obtain ⟨t, a1, o, b1, b2, b3⟩ := body p e s m args below meth c s₁ B hml hP s₁ hh0 (Stand.of_body B)
    exact ⟨t, o, a1, b1, b2, ⟨b3.1, b3.2⟩⟩
theorem s_startF {l : Launch} {y : MethodName} {cc : ByteArray} {maxL : Nat} {ret : Option FieldType} {rm : Room} {as : List Value} {Qc : Array Value → State → Outcome → State → Prop} {own : String} (hy : plainFor y = true) (hc : y.cls = own) (hlen : (lg_sl as).length ≤ maxL)
    (body : ∀ (p : Program) (e : Env) (R : Room) (s : State) (m : MethodId) (args : Array Value) (below : List Frame) (meth : Method) (c : Code) (ls : Array Slot) (Q : State → Prop), R = rm → MQ below Qc args s 0 0 (fun _ => False) = Q → SC p m c cc s args own → c.maxLocals = maxL → meth.sig.returnType = ret → meth.locks = false → lv_has ls maxL (lv_args 0 as) → W p l e R s m args below meth c s.heap [] 0 0 Q (F0 m 0 ls [])) :
    SM l y cc maxL ret rm as Qc := by
  refine ofWF (cc := cc) (maxL := maxL) (ret := ret) hy rfl ?_
  intro p e s m args below meth c s₁ B hml hv
  obtain ⟨rfl, -⟩ := hv
  have hts := atoms_spec (ws := ws_ y cc maxL ret) B.pre
  have hts : ∀ w ∈ lw_all, w.before _ s = true := fun w h => hts w (List.mem_cons_of_mem _ h)
  have hown : s.vm.findClass y.cls = some m.cls := findClass_of_methodNamed B.named
  rw [hc] at hown
  have hl := lv_entry as (n := maxL) hlen
  rw [lg_entry_eq]
  exact body p e rm s m _ below meth c _ _ rfl rfl ⟨B.exec, B.bytes, hown, hts⟩ hml B.returns B.notSynchronized hl
def lxorZ (a b : Int) : Int := (iL a ^^^ iL b).toInt
section RLX
variable {p : Program} {l : Launch} {e : Env} {R : Room} {s : State} {m : MethodId} {args : Array Value} {below : List Frame} {meth : Method} {c : Code} {H : Heap} {locs : List Loc} {cells slots : Nat} {Q : State → Prop}
variable {cc : ByteArray} {pc : Nat} {ls : Array Slot} {rest : List Value} {a b : Int}
theorem r_lxor (hx : p.tables.exec = Jvm.exec) (hb : c.code = cc) (hdg : decode cc pc = .ok (.lxor, 1)) (k : W p l e R s m args below meth c H locs cells slots Q (F0 m (pc + 1) ls (.long (iL (lxorZ a b)) :: rest))) : W p l e R s m args below meth c H locs cells slots Q (F0 m pc ls (.long (iL b) :: .long (iL a) :: rest)) := lv_lxor hx hb hdg (by rw [lxorZ, show iL (iL a ^^^ iL b).toInt = iL a ^^^ iL b from Int64.ofInt_toInt _] at k; exact k)
end RLX
theorem xor_neg {a b : Int} (ha : R32 a) (hb : R32 b) (h0 : 0 ≤ b) : xorZ a b < 0 ↔ a < 0 := by
  have h1 : (iI a ^^^ iI b).toBitVec.msb = ((iI a).toBitVec.msb ^^ (iI b).toBitVec.msb) := by rw [Int32.toBitVec_xor, BitVec.msb_xor]
  rw [BitVec.msb_eq_toInt, BitVec.msb_eq_toInt, BitVec.msb_eq_toInt] at h1
  have e1 : (iI a).toBitVec.toInt = a := iI_toInt ha
  have e2 : (iI b).toBitVec.toInt = b := iI_toInt hb
  have e3 : (iI a ^^^ iI b).toBitVec.toInt = xorZ a b := rfl
  rw [e1, e2, e3, decide_eq_false (show ¬ b < 0 by omega), Bool.xor_false] at h1
  exact decide_eq_decide.mp h1
theorem lxor_neg {a b : Int} (ha : R64 a) (hb : R64 b) (h0 : 0 ≤ b) : lxorZ a b < 0 ↔ a < 0 := by
  have h1 : (iL a ^^^ iL b).toBitVec.msb = ((iL a).toBitVec.msb ^^ (iL b).toBitVec.msb) := by rw [Int64.toBitVec_xor, BitVec.msb_xor]
  rw [BitVec.msb_eq_toInt, BitVec.msb_eq_toInt, BitVec.msb_eq_toInt] at h1
  have e1 : (iL a).toBitVec.toInt = a := iL_toInt ha
  have e2 : (iL b).toBitVec.toInt = b := iL_toInt hb
  have e3 : (iL a ^^^ iL b).toBitVec.toInt = lxorZ a b := rfl
  rw [e1, e2, e3, decide_eq_false (show ¬ b < 0 by omega), Bool.xor_false] at h1
  exact decide_eq_decide.mp h1
theorem lxorZ_R (a b : Int) : R64 (lxorZ a b) := ⟨by have := Int64.le_toInt (iL a ^^^ iL b); unfold lxorZ; omega, by have := Int64.toInt_lt (iL a ^^^ iL b); unfold lxorZ; omega⟩
theorem fl_neg {a b : Int} (hb : 0 < b) (ha : a < 0) : a / b = if a.tdiv b * b = a then a.tdiv b else a.tdiv b - 1 := by
  have e : a.tdiv b = -((-a) / b) := by rw [← Int.tdiv_eq_ediv_of_nonneg (show 0 ≤ -a by omega), Int.neg_tdiv, Int.neg_neg]
  have h1 := Int.ediv_mul_le a (Int.ne_of_gt hb)
  have h2 := Int.lt_ediv_add_one_mul_self a hb
  have h3 := Int.ediv_mul_le (-a) (Int.ne_of_gt hb)
  have h4 := Int.lt_ediv_add_one_mul_self (-a) hb
  rw [e]
  generalize a / b = x at *
  generalize -a / b = y at *
  rw [Int.add_mul, Int.one_mul] at h2 h4
  rw [Int.neg_mul]
  have k1 : (x + y) * b ≤ 0 := by rw [Int.add_mul]; omega
  have k2 : -(2 * b) < (x + y) * b := by rw [Int.add_mul]; omega
  have m1 : x + y ≤ 0 := by
    rcases Int.le_total (x + y) 0 with q | q
    · exact q
    · rcases Int.lt_or_eq_of_le q with q2 | q2
      · have := Int.mul_le_mul_of_nonneg_right (show 1 ≤ x + y by omega) (Int.le_of_lt hb)
        omega
      · omega
  have m2 : -1 ≤ x + y := by
    rcases Int.lt_or_le (x + y) (-1) with q | q
    · have := Int.mul_le_mul_of_nonneg_right (show x + y ≤ -2 by omega) (Int.le_of_lt hb)
      omega
    · exact q
  rcases (show x + y = 0 ∨ x + y = -1 by omega) with q | q
  · have : x = -y := by omega
    subst this
    rw [Int.neg_mul] at h1 h2
    rw [if_pos (by omega)]
  · have : x = -y - 1 := by omega
    subst this
    rw [Int.sub_mul, Int.neg_mul, Int.one_mul] at h1 h2
    rw [if_neg (by omega)]
theorem fl_mod {a b : Int} (hb : 0 < b) : a % b = if a < 0 ∧ a.tmod b ≠ 0 then a.tmod b + b else a.tmod b := by
  rcases Int.lt_or_le a 0 with h | h
  · have e1 := fl_neg hb h
    have e2 : a.tmod b = a - b * a.tdiv b := Int.tmod_def a b
    have e3 : a % b = a - b * (a / b) := Int.emod_def a b
    rw [e3, e1, e2]
    have hc : b * a.tdiv b = a.tdiv b * b := Int.mul_comm _ _
    by_cases q : a.tdiv b * b = a
    · rw [if_pos q, if_neg (by omega)]
    · rw [if_neg q, if_pos (by omega), Int.mul_sub, Int.mul_one]
      omega
  · rw [if_neg (by omega), Int.tmod_eq_emod_of_nonneg h]
/-- the first place of c from k on, of n -/
def ixF (f : Int → Int) (c : Int) : Nat → Int → Int
  | 0, _ => -1
  | n + 1, k => if f k = c then k else ixF f c n (k + 1)
theorem ixF_s (f : Int → Int) (c : Int) {n k : Int} (h : k < n) : ixF f c (n - k).toNat k = if f k = c then k else ixF f c (n - (k + 1)).toNat (k + 1) := by
  have e : (n - k).toNat = (n - (k + 1)).toNat + 1 := by omega
  rw [e]
  rfl
def sIx (i : Nat) (c : Int) : Int := if 0 ≤ c ∧ c ≤ 127 then ixF (sCh i) c (sLn i).toNat 0 else -1
theorem ixF_none {f : Int → Int} {c : Int} : ∀ (n : Nat) (k : Int), (∀ j, f j ≠ c) → ixF f c n k = -1
  | 0, _, _ => rfl
  | n + 1, k, h => by
    show (if f k = c then _ else _) = _
    rw [if_neg (h k)]
    exact ixF_none n (k + 1) h
theorem dJ4_max_0 : decode cJ4_max 0 = .ok (.iload_n 0, 1) := by decide +kernel
theorem dJ4_max_1 : decode cJ4_max 1 = .ok (.iload_n 1, 1) := by decide +kernel
theorem dJ4_max_2 : decode cJ4_max 2 = .ok (.if_icmp .lt 7, 3) := by decide +kernel
theorem dJ4_max_5 : decode cJ4_max 5 = .ok (.iload_n 0, 1) := by decide +kernel
theorem dJ4_max_6 : decode cJ4_max 6 = .ok (.goto 4, 3) := by decide +kernel
theorem dJ4_max_9 : decode cJ4_max 9 = .ok (.iload_n 1, 1) := by decide +kernel
theorem dJ4_max_10 : decode cJ4_max 10 = .ok (.ireturn, 1) := by decide +kernel
set_option maxHeartbeats 4000000 in
theorem met_max (l : Launch) (a b : Int) (ra : R32 a) (rb : R32 b) : SM l yJ4_max cJ4_max 2 (some .int) (mrm 0) [.int (iI a), .int (iI b)] (vp_Si (fun r => r = iI (if a < b then b else a))) := by
  refine s_startF (by decide +kernel) rfl (Nat.le_of_ble_eq_true rfl) ?_
  intro p e R s m args below meth c ls Q hR hQ hC hml hr hlk hl
  have hx := hC.1
  have hb := hC.2.1
  have hown := hC.2.2.1
  have hts := hC.2.2.2
  have hl : lv_has ls 2 [(0, .int (iI a)), (1, .int (iI b))] := hl
  refine lv_iload_n hx hb dJ4_max_0 rfl (lv_at hl 0 rfl) ?_
  refine lv_iload_n hx hb dJ4_max_1 rfl (lv_at hl 1 rfl) ?_
  refine r_icmp_lt (tgt := 9) hx hb dJ4_max_2 (by decide) ra rb (fun c1 => ?_) (fun c1 => ?_)
  · refine lv_iload_n hx hb dJ4_max_9 rfl (lv_at hl 1 rfl) ?_
    exact s_iret hC hr hlk hQ dJ4_max_10 (by split <;> omega)
  · refine lv_iload_n hx hb dJ4_max_5 rfl (lv_at hl 0 rfl) ?_
    refine lv_goto (tgt := 10) hx hb dJ4_max_6 (by decide) ?_
    exact s_iret hC hr hlk hQ dJ4_max_10 (by split <;> omega)
theorem dJ4_min_0 : decode cJ4_min 0 = .ok (.iload_n 0, 1) := by decide +kernel
theorem dJ4_min_1 : decode cJ4_min 1 = .ok (.iload_n 1, 1) := by decide +kernel
theorem dJ4_min_2 : decode cJ4_min 2 = .ok (.if_icmp .gt 7, 3) := by decide +kernel
theorem dJ4_min_5 : decode cJ4_min 5 = .ok (.iload_n 0, 1) := by decide +kernel
theorem dJ4_min_6 : decode cJ4_min 6 = .ok (.goto 4, 3) := by decide +kernel
theorem dJ4_min_9 : decode cJ4_min 9 = .ok (.iload_n 1, 1) := by decide +kernel
theorem dJ4_min_10 : decode cJ4_min 10 = .ok (.ireturn, 1) := by decide +kernel
set_option maxHeartbeats 4000000 in
theorem met_min (l : Launch) (a b : Int) (ra : R32 a) (rb : R32 b) : SM l yJ4_min cJ4_min 2 (some .int) (mrm 0) [.int (iI a), .int (iI b)] (vp_Si (fun r => r = iI (if b < a then b else a))) := by
  refine s_startF (by decide +kernel) rfl (Nat.le_of_ble_eq_true rfl) ?_
  intro p e R s m args below meth c ls Q hR hQ hC hml hr hlk hl
  have hx := hC.1
  have hb := hC.2.1
  have hown := hC.2.2.1
  have hts := hC.2.2.2
  have hl : lv_has ls 2 [(0, .int (iI a)), (1, .int (iI b))] := hl
  refine lv_iload_n hx hb dJ4_min_0 rfl (lv_at hl 0 rfl) ?_
  refine lv_iload_n hx hb dJ4_min_1 rfl (lv_at hl 1 rfl) ?_
  refine r_icmp_gt (tgt := 9) hx hb dJ4_min_2 (by decide) ra rb (fun c1 => ?_) (fun c1 => ?_)
  · refine lv_iload_n hx hb dJ4_min_9 rfl (lv_at hl 1 rfl) ?_
    exact s_iret hC hr hlk hQ dJ4_min_10 (by split <;> omega)
  · refine lv_iload_n hx hb dJ4_min_5 rfl (lv_at hl 0 rfl) ?_
    refine lv_goto (tgt := 10) hx hb dJ4_min_6 (by decide) ?_
    exact s_iret hC hr hlk hQ dJ4_min_10 (by split <;> omega)
theorem dJ4_max_2_0 : decode cJ4_max_2 0 = .ok (.lload_n 0, 1) := by decide +kernel
theorem dJ4_max_2_1 : decode cJ4_max_2 1 = .ok (.lload_n 2, 1) := by decide +kernel
theorem dJ4_max_2_2 : decode cJ4_max_2 2 = .ok (.lcmp, 1) := by decide +kernel
theorem dJ4_max_2_3 : decode cJ4_max_2 3 = .ok (.ifCond .lt 7, 3) := by decide +kernel
theorem dJ4_max_2_6 : decode cJ4_max_2 6 = .ok (.lload_n 0, 1) := by decide +kernel
theorem dJ4_max_2_7 : decode cJ4_max_2 7 = .ok (.goto 4, 3) := by decide +kernel
theorem dJ4_max_2_10 : decode cJ4_max_2 10 = .ok (.lload_n 2, 1) := by decide +kernel
theorem dJ4_max_2_11 : decode cJ4_max_2 11 = .ok (.lreturn, 1) := by decide +kernel
set_option maxHeartbeats 4000000 in
theorem met_maxL (l : Launch) (a b : Int) (ra : R64 a) (rb : R64 b) : SM l yJ4_max_2 cJ4_max_2 4 (some .long) (mrm 0) [.long (iL a), .long (iL b)] (vp_Sl (fun r => r = iL (if a < b then b else a))) := by
  refine s_startF (by decide +kernel) rfl (Nat.le_of_ble_eq_true rfl) ?_
  intro p e R s m args below meth c ls Q hR hQ hC hml hr hlk hl
  have hx := hC.1
  have hb := hC.2.1
  have hown := hC.2.2.1
  have hts := hC.2.2.2
  have hl : lv_has ls 4 [(0, .long (iL a)), (2, .long (iL b))] := hl
  refine lv_lload_n hx hb dJ4_max_2_0 rfl (lv_at hl 0 rfl) ?_
  refine lv_lload_n hx hb dJ4_max_2_1 rfl (lv_at hl 1 rfl) ?_
  refine r_lcmp hx hb dJ4_max_2_2 ra rb ?_
  refine r_lif_lt (tgt := 10) hx hb dJ4_max_2_3 (by decide) (fun c1 => ?_) (fun c1 => ?_)
  · refine lv_lload_n hx hb dJ4_max_2_10 rfl (lv_at hl 1 rfl) ?_
    exact s_lret hC hr hlk hQ dJ4_max_2_11 (by split <;> omega)
  · refine lv_lload_n hx hb dJ4_max_2_6 rfl (lv_at hl 0 rfl) ?_
    refine lv_goto (tgt := 11) hx hb dJ4_max_2_7 (by decide) ?_
    exact s_lret hC hr hlk hQ dJ4_max_2_11 (by split <;> omega)
theorem dJ4_min_2_0 : decode cJ4_min_2 0 = .ok (.lload_n 0, 1) := by decide +kernel
theorem dJ4_min_2_1 : decode cJ4_min_2 1 = .ok (.lload_n 2, 1) := by decide +kernel
theorem dJ4_min_2_2 : decode cJ4_min_2 2 = .ok (.lcmp, 1) := by decide +kernel
theorem dJ4_min_2_3 : decode cJ4_min_2 3 = .ok (.ifCond .gt 7, 3) := by decide +kernel
theorem dJ4_min_2_6 : decode cJ4_min_2 6 = .ok (.lload_n 0, 1) := by decide +kernel
theorem dJ4_min_2_7 : decode cJ4_min_2 7 = .ok (.goto 4, 3) := by decide +kernel
theorem dJ4_min_2_10 : decode cJ4_min_2 10 = .ok (.lload_n 2, 1) := by decide +kernel
theorem dJ4_min_2_11 : decode cJ4_min_2 11 = .ok (.lreturn, 1) := by decide +kernel
set_option maxHeartbeats 4000000 in
theorem met_minL (l : Launch) (a b : Int) (ra : R64 a) (rb : R64 b) : SM l yJ4_min_2 cJ4_min_2 4 (some .long) (mrm 0) [.long (iL a), .long (iL b)] (vp_Sl (fun r => r = iL (if b < a then b else a))) := by
  refine s_startF (by decide +kernel) rfl (Nat.le_of_ble_eq_true rfl) ?_
  intro p e R s m args below meth c ls Q hR hQ hC hml hr hlk hl
  have hx := hC.1
  have hb := hC.2.1
  have hown := hC.2.2.1
  have hts := hC.2.2.2
  have hl : lv_has ls 4 [(0, .long (iL a)), (2, .long (iL b))] := hl
  refine lv_lload_n hx hb dJ4_min_2_0 rfl (lv_at hl 0 rfl) ?_
  refine lv_lload_n hx hb dJ4_min_2_1 rfl (lv_at hl 1 rfl) ?_
  refine r_lcmp hx hb dJ4_min_2_2 ra rb ?_
  refine r_lif_gt (tgt := 10) hx hb dJ4_min_2_3 (by decide) (fun c1 => ?_) (fun c1 => ?_)
  · refine lv_lload_n hx hb dJ4_min_2_10 rfl (lv_at hl 1 rfl) ?_
    exact s_lret hC hr hlk hQ dJ4_min_2_11 (by split <;> omega)
  · refine lv_lload_n hx hb dJ4_min_2_6 rfl (lv_at hl 0 rfl) ?_
    refine lv_goto (tgt := 11) hx hb dJ4_min_2_7 (by decide) ?_
    exact s_lret hC hr hlk hQ dJ4_min_2_11 (by split <;> omega)
theorem dJ4_abs_0 : decode cJ4_abs 0 = .ok (.iload_n 0, 1) := by decide +kernel
theorem dJ4_abs_1 : decode cJ4_abs 1 = .ok (.ifCond .ge 8, 3) := by decide +kernel
theorem dJ4_abs_4 : decode cJ4_abs 4 = .ok (.iload_n 0, 1) := by decide +kernel
theorem dJ4_abs_5 : decode cJ4_abs 5 = .ok (.ineg, 1) := by decide +kernel
theorem dJ4_abs_6 : decode cJ4_abs 6 = .ok (.goto 4, 3) := by decide +kernel
theorem dJ4_abs_9 : decode cJ4_abs 9 = .ok (.iload_n 0, 1) := by decide +kernel
theorem dJ4_abs_10 : decode cJ4_abs 10 = .ok (.ireturn, 1) := by decide +kernel
set_option maxHeartbeats 4000000 in
theorem met_abs (l : Launch) (a : Int) (ra : R32 a) : SM l yJ4_abs cJ4_abs 1 (some .int) (mrm 0) [.int (iI a)] (vp_Si (fun r => r = iI (absI a))) := by
  refine s_startF (by decide +kernel) rfl (Nat.le_of_ble_eq_true rfl) ?_
  intro p e R s m args below meth c ls Q hR hQ hC hml hr hlk hl
  have hx := hC.1
  have hb := hC.2.1
  have hown := hC.2.2.1
  have hts := hC.2.2.2
  have hl : lv_has ls 1 [(0, .int (iI a))] := hl
  refine lv_iload_n hx hb dJ4_abs_0 rfl (lv_at hl 0 rfl) ?_
  refine r_if_ge (tgt := 9) hx hb dJ4_abs_1 (by decide) ra (fun c1 => ?_) (fun c1 => ?_)
  · refine lv_iload_n hx hb dJ4_abs_9 rfl (lv_at hl 0 rfl) ?_
    exact s_iret hC hr hlk hQ dJ4_abs_10 (by unfold absI; split <;> omega)
  · refine lv_iload_n hx hb dJ4_abs_4 rfl (lv_at hl 0 rfl) ?_
    refine r_ineg hx hb dJ4_abs_5 ?_
    refine lv_goto (tgt := 10) hx hb dJ4_abs_6 (by decide) ?_
    exact s_iret hC hr hlk hQ dJ4_abs_10 (by unfold absI; split <;> omega)
theorem dJ4_floorDiv_0 : decode cJ4_floorDiv 0 = .ok (.iload_n 0, 1) := by decide +kernel
theorem dJ4_floorDiv_1 : decode cJ4_floorDiv 1 = .ok (.iload_n 1, 1) := by decide +kernel
theorem dJ4_floorDiv_2 : decode cJ4_floorDiv 2 = .ok (.idiv, 1) := by decide +kernel
theorem dJ4_floorDiv_3 : decode cJ4_floorDiv 3 = .ok (.istore_n 2, 1) := by decide +kernel
theorem dJ4_floorDiv_4 : decode cJ4_floorDiv 4 = .ok (.iload_n 0, 1) := by decide +kernel
theorem dJ4_floorDiv_5 : decode cJ4_floorDiv 5 = .ok (.iload_n 1, 1) := by decide +kernel
theorem dJ4_floorDiv_6 : decode cJ4_floorDiv 6 = .ok (.ixor, 1) := by decide +kernel
theorem dJ4_floorDiv_7 : decode cJ4_floorDiv 7 = .ok (.ifCond .ge 14, 3) := by decide +kernel
theorem dJ4_floorDiv_10 : decode cJ4_floorDiv 10 = .ok (.iload_n 2, 1) := by decide +kernel
theorem dJ4_floorDiv_11 : decode cJ4_floorDiv 11 = .ok (.iload_n 1, 1) := by decide +kernel
theorem dJ4_floorDiv_12 : decode cJ4_floorDiv 12 = .ok (.imul, 1) := by decide +kernel
theorem dJ4_floorDiv_13 : decode cJ4_floorDiv 13 = .ok (.iload_n 0, 1) := by decide +kernel
theorem dJ4_floorDiv_14 : decode cJ4_floorDiv 14 = .ok (.if_icmp .eq 7, 3) := by decide +kernel
theorem dJ4_floorDiv_17 : decode cJ4_floorDiv 17 = .ok (.iload_n 2, 1) := by decide +kernel
theorem dJ4_floorDiv_18 : decode cJ4_floorDiv 18 = .ok (.iconst 1, 1) := by decide +kernel
theorem dJ4_floorDiv_19 : decode cJ4_floorDiv 19 = .ok (.isub, 1) := by decide +kernel
theorem dJ4_floorDiv_20 : decode cJ4_floorDiv 20 = .ok (.ireturn, 1) := by decide +kernel
theorem dJ4_floorDiv_21 : decode cJ4_floorDiv 21 = .ok (.iload_n 2, 1) := by decide +kernel
theorem dJ4_floorDiv_22 : decode cJ4_floorDiv 22 = .ok (.ireturn, 1) := by decide +kernel
set_option maxHeartbeats 4000000 in
theorem met_fdiv (l : Launch) (a b : Int) (ra : R32 a) (rb : 0 < b ∧ b ≤ 1000) : SM l yJ4_floorDiv cJ4_floorDiv 3 (some .int) (mrm 0) [.int (iI a), .int (iI b)] (vp_Si (fun r => r = iI (a / b))) := by
  refine s_startF (by decide +kernel) rfl (Nat.le_of_ble_eq_true rfl) ?_
  intro p e R s m args below meth c ls Q hR hQ hC hml hr hlk hl
  have hx := hC.1
  have hb := hC.2.1
  have hown := hC.2.2.1
  have hts := hC.2.2.2
  have hl : lv_has ls 3 [(0, .int (iI a)), (1, .int (iI b))] := hl
  have hq := tdiv_bd (a := a) (b := b) (M := 2147483648) (by omega) (by omega)
  have hxr := xorZ_R a b
  have hxn := xor_neg ra (show R32 b by omega) (by omega)
  refine lv_iload_n hx hb dJ4_floorDiv_0 rfl (lv_at hl 0 rfl) ?_
  refine lv_iload_n hx hb dJ4_floorDiv_1 rfl (lv_at hl 1 rfl) ?_
  refine r_idiv hx hb dJ4_floorDiv_2 ra (by omega) (by omega) ?_
  refine lv_istore_n (lv' := [(2, .int (iI (a.tdiv b))), (0, .int (iI a)), (1, .int (iI b))]) hx hb dJ4_floorDiv_3 rfl hl (by decide) rfl (fun ls hl => ?_)
  refine lv_iload_n hx hb dJ4_floorDiv_4 rfl (lv_at hl 1 rfl) ?_
  refine lv_iload_n hx hb dJ4_floorDiv_5 rfl (lv_at hl 2 rfl) ?_
  refine r_ixor hx hb dJ4_floorDiv_6 ?_
  refine r_if_ge (tgt := 21) hx hb dJ4_floorDiv_7 (by decide) hxr (fun c1 => ?_) (fun c1 => ?_)
  · refine lv_iload_n hx hb dJ4_floorDiv_21 rfl (lv_at hl 0 rfl) ?_
    exact s_iret hC hr hlk hQ dJ4_floorDiv_22 (Int.tdiv_eq_ediv_of_nonneg (by omega))
  · have ha : a < 0 := hxn.mp (by omega)
    have hm : R32 (a.tdiv b * b) := by
      have e : a.tdiv b = -((-a) / b) := by rw [← Int.tdiv_eq_ediv_of_nonneg (show 0 ≤ -a by omega), Int.neg_tdiv, Int.neg_neg]
      have h3 := Int.ediv_mul_le (-a) (show b ≠ 0 by omega)
      have h4 := Int.mul_nonneg (Int.ediv_nonneg (show 0 ≤ -a by omega) (show 0 ≤ b by omega)) (show 0 ≤ b by omega)
      rw [e, Int.neg_mul]
      omega
    refine lv_iload_n hx hb dJ4_floorDiv_10 rfl (lv_at hl 0 rfl) ?_
    refine lv_iload_n hx hb dJ4_floorDiv_11 rfl (lv_at hl 2 rfl) ?_
    refine r_imul hx hb dJ4_floorDiv_12 ?_
    refine lv_iload_n hx hb dJ4_floorDiv_13 rfl (lv_at hl 1 rfl) ?_
    refine r_icmp_eq (tgt := 21) hx hb dJ4_floorDiv_14 (by decide) hm ra (fun c2 => ?_) (fun c2 => ?_)
    · refine lv_iload_n hx hb dJ4_floorDiv_21 rfl (lv_at hl 0 rfl) ?_
      exact s_iret hC hr hlk hQ dJ4_floorDiv_22 (by rw [fl_neg (by omega) ha, if_pos (by assumption)])
    · refine lv_iload_n hx hb dJ4_floorDiv_17 rfl (lv_at hl 0 rfl) ?_
      refine r_iconst hx hb dJ4_floorDiv_18 ?_
      refine r_isub hx hb dJ4_floorDiv_19 ?_
      exact s_iret hC hr hlk hQ dJ4_floorDiv_20 (by rw [fl_neg (by omega) ha, if_neg (by assumption)])
theorem dJ4_floorMod_0 : decode cJ4_floorMod 0 = .ok (.iload_n 0, 1) := by decide +kernel
theorem dJ4_floorMod_1 : decode cJ4_floorMod 1 = .ok (.iload_n 1, 1) := by decide +kernel
theorem dJ4_floorMod_2 : decode cJ4_floorMod 2 = .ok (.irem, 1) := by decide +kernel
theorem dJ4_floorMod_3 : decode cJ4_floorMod 3 = .ok (.istore_n 2, 1) := by decide +kernel
theorem dJ4_floorMod_4 : decode cJ4_floorMod 4 = .ok (.iload_n 0, 1) := by decide +kernel
theorem dJ4_floorMod_5 : decode cJ4_floorMod 5 = .ok (.iload_n 1, 1) := by decide +kernel
theorem dJ4_floorMod_6 : decode cJ4_floorMod 6 = .ok (.ixor, 1) := by decide +kernel
theorem dJ4_floorMod_7 : decode cJ4_floorMod 7 = .ok (.ifCond .ge 11, 3) := by decide +kernel
theorem dJ4_floorMod_10 : decode cJ4_floorMod 10 = .ok (.iload_n 2, 1) := by decide +kernel
theorem dJ4_floorMod_11 : decode cJ4_floorMod 11 = .ok (.ifCond .eq 7, 3) := by decide +kernel
theorem dJ4_floorMod_14 : decode cJ4_floorMod 14 = .ok (.iload_n 2, 1) := by decide +kernel
theorem dJ4_floorMod_15 : decode cJ4_floorMod 15 = .ok (.iload_n 1, 1) := by decide +kernel
theorem dJ4_floorMod_16 : decode cJ4_floorMod 16 = .ok (.iadd, 1) := by decide +kernel
theorem dJ4_floorMod_17 : decode cJ4_floorMod 17 = .ok (.ireturn, 1) := by decide +kernel
theorem dJ4_floorMod_18 : decode cJ4_floorMod 18 = .ok (.iload_n 2, 1) := by decide +kernel
theorem dJ4_floorMod_19 : decode cJ4_floorMod 19 = .ok (.ireturn, 1) := by decide +kernel
set_option maxHeartbeats 4000000 in
theorem met_fmod (l : Launch) (a b : Int) (ra : R32 a) (rb : 0 < b ∧ b ≤ 1000) : SM l yJ4_floorMod cJ4_floorMod 3 (some .int) (mrm 0) [.int (iI a), .int (iI b)] (vp_Si (fun r => r = iI (a % b))) := by
  refine s_startF (by decide +kernel) rfl (Nat.le_of_ble_eq_true rfl) ?_
  intro p e R s m args below meth c ls Q hR hQ hC hml hr hlk hl
  have hx := hC.1
  have hb := hC.2.1
  have hown := hC.2.2.1
  have hts := hC.2.2.2
  have hl : lv_has ls 3 [(0, .int (iI a)), (1, .int (iI b))] := hl
  have hxr := xorZ_R a b
  have hxn := xor_neg ra (show R32 b by omega) (by omega)
  have hm : R32 (a.tmod b) := by
    have h1 := Int.tmod_lt_of_pos a (show 0 < b by omega)
    have h2 := Int.lt_tmod_of_pos a (show 0 < b by omega)
    omega
  refine lv_iload_n hx hb dJ4_floorMod_0 rfl (lv_at hl 0 rfl) ?_
  refine lv_iload_n hx hb dJ4_floorMod_1 rfl (lv_at hl 1 rfl) ?_
  refine r_irem hx hb dJ4_floorMod_2 ra (by omega) (by omega) ?_
  refine lv_istore_n (lv' := [(2, .int (iI (a.tmod b))), (0, .int (iI a)), (1, .int (iI b))]) hx hb dJ4_floorMod_3 rfl hl (by decide) rfl (fun ls hl => ?_)
  refine lv_iload_n hx hb dJ4_floorMod_4 rfl (lv_at hl 1 rfl) ?_
  refine lv_iload_n hx hb dJ4_floorMod_5 rfl (lv_at hl 2 rfl) ?_
  refine r_ixor hx hb dJ4_floorMod_6 ?_
  refine r_if_ge (tgt := 18) hx hb dJ4_floorMod_7 (by decide) hxr (fun c1 => ?_) (fun c1 => ?_)
  · refine lv_iload_n hx hb dJ4_floorMod_18 rfl (lv_at hl 0 rfl) ?_
    exact s_iret hC hr hlk hQ dJ4_floorMod_19 (by rw [fl_mod (by omega)]; split <;> first | rfl | omega)
  · refine lv_iload_n hx hb dJ4_floorMod_10 rfl (lv_at hl 0 rfl) ?_
    refine r_if_eq (tgt := 18) hx hb dJ4_floorMod_11 (by decide) hm (fun c2 => ?_) (fun c2 => ?_)
    · refine lv_iload_n hx hb dJ4_floorMod_18 rfl (lv_at hl 0 rfl) ?_
      exact s_iret hC hr hlk hQ dJ4_floorMod_19 (by rw [fl_mod (by omega)]; split <;> first | rfl | omega)
    · refine lv_iload_n hx hb dJ4_floorMod_14 rfl (lv_at hl 0 rfl) ?_
      refine lv_iload_n hx hb dJ4_floorMod_15 rfl (lv_at hl 2 rfl) ?_
      refine r_iadd hx hb dJ4_floorMod_16 ?_
      exact s_iret hC hr hlk hQ dJ4_floorMod_17 (by rw [fl_mod (by omega)]; split <;> first | rfl | omega)
theorem dJ4_floorDiv_2_0 : decode cJ4_floorDiv_2 0 = .ok (.lload_n 0, 1) := by decide +kernel
theorem dJ4_floorDiv_2_1 : decode cJ4_floorDiv_2 1 = .ok (.lload_n 2, 1) := by decide +kernel
theorem dJ4_floorDiv_2_2 : decode cJ4_floorDiv_2 2 = .ok (.ldiv, 1) := by decide +kernel
theorem dJ4_floorDiv_2_3 : decode cJ4_floorDiv_2 3 = .ok (.lstore 4, 2) := by decide +kernel
theorem dJ4_floorDiv_2_5 : decode cJ4_floorDiv_2 5 = .ok (.lload_n 0, 1) := by decide +kernel
theorem dJ4_floorDiv_2_6 : decode cJ4_floorDiv_2 6 = .ok (.lload_n 2, 1) := by decide +kernel
theorem dJ4_floorDiv_2_7 : decode cJ4_floorDiv_2 7 = .ok (.lxor, 1) := by decide +kernel
theorem dJ4_floorDiv_2_8 : decode cJ4_floorDiv_2 8 = .ok (.lconst 0, 1) := by decide +kernel
theorem dJ4_floorDiv_2_9 : decode cJ4_floorDiv_2 9 = .ok (.lcmp, 1) := by decide +kernel
theorem dJ4_floorDiv_2_10 : decode cJ4_floorDiv_2 10 = .ok (.ifCond .ge 17, 3) := by decide +kernel
theorem dJ4_floorDiv_2_13 : decode cJ4_floorDiv_2 13 = .ok (.lload 4, 2) := by decide +kernel
theorem dJ4_floorDiv_2_15 : decode cJ4_floorDiv_2 15 = .ok (.lload_n 2, 1) := by decide +kernel
theorem dJ4_floorDiv_2_16 : decode cJ4_floorDiv_2 16 = .ok (.lmul, 1) := by decide +kernel
theorem dJ4_floorDiv_2_17 : decode cJ4_floorDiv_2 17 = .ok (.lload_n 0, 1) := by decide +kernel
theorem dJ4_floorDiv_2_18 : decode cJ4_floorDiv_2 18 = .ok (.lcmp, 1) := by decide +kernel
theorem dJ4_floorDiv_2_19 : decode cJ4_floorDiv_2 19 = .ok (.ifCond .eq 8, 3) := by decide +kernel
theorem dJ4_floorDiv_2_22 : decode cJ4_floorDiv_2 22 = .ok (.lload 4, 2) := by decide +kernel
theorem dJ4_floorDiv_2_24 : decode cJ4_floorDiv_2 24 = .ok (.lconst 1, 1) := by decide +kernel
theorem dJ4_floorDiv_2_25 : decode cJ4_floorDiv_2 25 = .ok (.lsub, 1) := by decide +kernel
theorem dJ4_floorDiv_2_26 : decode cJ4_floorDiv_2 26 = .ok (.lreturn, 1) := by decide +kernel
theorem dJ4_floorDiv_2_27 : decode cJ4_floorDiv_2 27 = .ok (.lload 4, 2) := by decide +kernel
theorem dJ4_floorDiv_2_29 : decode cJ4_floorDiv_2 29 = .ok (.lreturn, 1) := by decide +kernel
set_option maxHeartbeats 4000000 in
theorem met_fdivL (l : Launch) (a b : Int) (ra : R64 a) (rb : 0 < b ∧ b ≤ 2147483647) : SM l yJ4_floorDiv_2 cJ4_floorDiv_2 6 (some .long) (mrm 0) [.long (iL a), .long (iL b)] (vp_Sl (fun r => r = iL (a / b))) := by
  refine s_startF (by decide +kernel) rfl (Nat.le_of_ble_eq_true rfl) ?_
  intro p e R s m args below meth c ls Q hR hQ hC hml hr hlk hl
  have hx := hC.1
  have hb := hC.2.1
  have hown := hC.2.2.1
  have hts := hC.2.2.2
  have hl : lv_has ls 6 [(0, .long (iL a)), (2, .long (iL b))] := hl
  have hxr := lxorZ_R a b
  have hxn := lxor_neg ra (show R64 b by omega) (by omega)
  refine lv_lload_n hx hb dJ4_floorDiv_2_0 rfl (lv_at hl 0 rfl) ?_
  refine lv_lload_n hx hb dJ4_floorDiv_2_1 rfl (lv_at hl 1 rfl) ?_
  refine r_ldiv hx hb dJ4_floorDiv_2_2 ra (by omega) (by omega) ?_
  refine lv_lstore (lv' := [(4, .long (iL (a.tdiv b))), (0, .long (iL a)), (2, .long (iL b))]) hx hb dJ4_floorDiv_2_3 hl (by decide) rfl (fun ls hl => ?_)
  refine lv_lload_n hx hb dJ4_floorDiv_2_5 rfl (lv_at hl 1 rfl) ?_
  refine lv_lload_n hx hb dJ4_floorDiv_2_6 rfl (lv_at hl 2 rfl) ?_
  refine r_lxor hx hb dJ4_floorDiv_2_7 ?_
  refine r_lconst hx hb 0 dJ4_floorDiv_2_8 (by decide) ?_
  refine r_lcmp hx hb dJ4_floorDiv_2_9 hxr (by decide) ?_
  refine r_lif_ge (tgt := 27) hx hb dJ4_floorDiv_2_10 (by decide) (fun c1 => ?_) (fun c1 => ?_)
  · refine lv_lload hx hb dJ4_floorDiv_2_27 (lv_at hl 0 rfl) ?_
    exact s_lret hC hr hlk hQ dJ4_floorDiv_2_29 (Int.tdiv_eq_ediv_of_nonneg (by omega))
  · have ha : a < 0 := hxn.mp (by omega)
    have hm : R64 (a.tdiv b * b) := by
      have e : a.tdiv b = -((-a) / b) := by rw [← Int.tdiv_eq_ediv_of_nonneg (show 0 ≤ -a by omega), Int.neg_tdiv, Int.neg_neg]
      have h3 := Int.ediv_mul_le (-a) (show b ≠ 0 by omega)
      have h4 := Int.mul_nonneg (Int.ediv_nonneg (show 0 ≤ -a by omega) (show 0 ≤ b by omega)) (show 0 ≤ b by omega)
      rw [e, Int.neg_mul]
      omega
    refine lv_lload hx hb dJ4_floorDiv_2_13 (lv_at hl 0 rfl) ?_
    refine lv_lload_n hx hb dJ4_floorDiv_2_15 rfl (lv_at hl 2 rfl) ?_
    refine r_lmul hx hb dJ4_floorDiv_2_16 ?_
    refine lv_lload_n hx hb dJ4_floorDiv_2_17 rfl (lv_at hl 1 rfl) ?_
    refine r_lcmp hx hb dJ4_floorDiv_2_18 hm ra ?_
    refine r_lif_eq (tgt := 27) hx hb dJ4_floorDiv_2_19 (by decide) (fun c2 => ?_) (fun c2 => ?_)
    · refine lv_lload hx hb dJ4_floorDiv_2_27 (lv_at hl 0 rfl) ?_
      exact s_lret hC hr hlk hQ dJ4_floorDiv_2_29 (by rw [fl_neg (by omega) ha, if_pos (by assumption)])
    · refine lv_lload hx hb dJ4_floorDiv_2_22 (lv_at hl 0 rfl) ?_
      refine r_lconst hx hb 1 dJ4_floorDiv_2_24 (by decide) ?_
      refine r_lsub hx hb dJ4_floorDiv_2_25 ?_
      exact s_lret hC hr hlk hQ dJ4_floorDiv_2_26 (by rw [fl_neg (by omega) ha, if_neg (by assumption)])
theorem dJ7_checkIndex_0 : decode cJ7_checkIndex 0 = .ok (.iload_n 0, 1) := by decide +kernel
theorem dJ7_checkIndex_1 : decode cJ7_checkIndex 1 = .ok (.ifCond .lt 8, 3) := by decide +kernel
theorem dJ7_checkIndex_4 : decode cJ7_checkIndex 4 = .ok (.iload_n 0, 1) := by decide +kernel
theorem dJ7_checkIndex_5 : decode cJ7_checkIndex 5 = .ok (.iload_n 1, 1) := by decide +kernel
theorem dJ7_checkIndex_6 : decode cJ7_checkIndex 6 = .ok (.if_icmp .lt 10, 3) := by decide +kernel
theorem dJ7_checkIndex_16 : decode cJ7_checkIndex 16 = .ok (.iload_n 0, 1) := by decide +kernel
theorem dJ7_checkIndex_17 : decode cJ7_checkIndex 17 = .ok (.ireturn, 1) := by decide +kernel
set_option maxHeartbeats 4000000 in
theorem met_pchk (l : Launch) (k n : Int) (z : Nat) (hk : 0 ≤ k ∧ k < n) (hn : n ≤ 2147483647) : SM l yJ7_checkIndex cJ7_checkIndex 3 (some .int) (mrm 0) [.int (iI k), .int (iI n), .ref z] (vp_Si (fun r => r = iI (k))) := by
  refine s_start (by decide) rfl (Nat.le_of_ble_eq_true rfl) ?_
  intro p e R s m args below meth c ls Q hR hQ hC hml hr hlk hl
  have hx := hC.1
  have hb := hC.2.1
  have hown := hC.2.2.1
  have hts := hC.2.2.2
  have hl : lv_has ls 3 [(0, .int (iI k)), (1, .int (iI n)), (2, .ref z)] := hl
  refine lv_iload_n hx hb dJ7_checkIndex_0 rfl (lv_at hl 0 rfl) ?_
  refine r_if_lt (tgt := 9) hx hb dJ7_checkIndex_1 (by decide) (by omega) (fun c1 => absurd c1 (by omega)) (fun c1 => ?_)
  refine lv_iload_n hx hb dJ7_checkIndex_4 rfl (lv_at hl 0 rfl) ?_
  refine lv_iload_n hx hb dJ7_checkIndex_5 rfl (lv_at hl 1 rfl) ?_
  refine r_icmp_lt (tgt := 16) hx hb dJ7_checkIndex_6 (by decide) (by omega) (by omega) (fun c2 => ?_) (fun c2 => absurd c2 (by omega))
  refine lv_iload_n hx hb dJ7_checkIndex_16 rfl (lv_at hl 0 rfl) ?_
  exact s_iret hC hr hlk hQ dJ7_checkIndex_17 (rfl)
set_option maxHeartbeats 4000000 in
theorem met_pchkN (l : Launch) (k n : Int) (hk : 0 ≤ k ∧ k < n) (hn : n ≤ 2147483647) : SM l yJ7_checkIndex cJ7_checkIndex 3 (some .int) (mrm 0) [.int (iI k), .int (iI n), .null] (vp_Si (fun r => r = iI (k))) := by
  refine s_start (by decide) rfl (Nat.le_of_ble_eq_true rfl) ?_
  intro p e R s m args below meth c ls Q hR hQ hC hml hr hlk hl
  have hx := hC.1
  have hb := hC.2.1
  have hown := hC.2.2.1
  have hts := hC.2.2.2
  have hl : lv_has ls 3 [(0, .int (iI k)), (1, .int (iI n)), (2, .null)] := hl
  refine lv_iload_n hx hb dJ7_checkIndex_0 rfl (lv_at hl 0 rfl) ?_
  refine r_if_lt (tgt := 9) hx hb dJ7_checkIndex_1 (by decide) (by omega) (fun c1 => absurd c1 (by omega)) (fun c1 => ?_)
  refine lv_iload_n hx hb dJ7_checkIndex_4 rfl (lv_at hl 0 rfl) ?_
  refine lv_iload_n hx hb dJ7_checkIndex_5 rfl (lv_at hl 1 rfl) ?_
  refine r_icmp_lt (tgt := 16) hx hb dJ7_checkIndex_6 (by decide) (by omega) (by omega) (fun c2 => ?_) (fun c2 => absurd c2 (by omega))
  refine lv_iload_n hx hb dJ7_checkIndex_16 rfl (lv_at hl 0 rfl) ?_
  exact s_iret hC hr hlk hQ dJ7_checkIndex_17 (rfl)
theorem dJ9_canEncode_0 : decode cJ9_canEncode 0 = .ok (.iload_n 0, 1) := by decide +kernel
theorem dJ9_canEncode_1 : decode cJ9_canEncode 1 = .ok (.ifCond .lt 14, 3) := by decide +kernel
theorem dJ9_canEncode_4 : decode cJ9_canEncode 4 = .ok (.iload_n 0, 1) := by decide +kernel
theorem dJ9_canEncode_5 : decode cJ9_canEncode 5 = .ok (.sipush 255, 3) := by decide +kernel
theorem dJ9_canEncode_8 : decode cJ9_canEncode 8 = .ok (.if_icmp .gt 7, 3) := by decide +kernel
theorem dJ9_canEncode_11 : decode cJ9_canEncode 11 = .ok (.iconst 1, 1) := by decide +kernel
theorem dJ9_canEncode_12 : decode cJ9_canEncode 12 = .ok (.goto 4, 3) := by decide +kernel
theorem dJ9_canEncode_15 : decode cJ9_canEncode 15 = .ok (.iconst 0, 1) := by decide +kernel
theorem dJ9_canEncode_16 : decode cJ9_canEncode 16 = .ok (.ireturn, 1) := by decide +kernel
set_option maxHeartbeats 4000000 in
theorem met_canEnc (l : Launch) (k : Int) (rk : R32 k) : SM l yJ9_canEncode cJ9_canEncode 1 (some .boolean) (mrm 0) [.int (iI k)] (vp_Si (fun r => r = iI (if 0 ≤ k ∧ k ≤ 255 then 1 else 0))) := by
  refine s_start (by decide) rfl (Nat.le_of_ble_eq_true rfl) ?_
  intro p e R s m args below meth c ls Q hR hQ hC hml hr hlk hl
  have hx := hC.1
  have hb := hC.2.1
  have hown := hC.2.2.1
  have hts := hC.2.2.2
  have hl : lv_has ls 1 [(0, .int (iI k))] := hl
  refine lv_iload_n hx hb dJ9_canEncode_0 rfl (lv_at hl 0 rfl) ?_
  refine r_if_lt (tgt := 15) hx hb dJ9_canEncode_1 (by decide) rk (fun c1 => ?_) (fun c1 => ?_)
  · refine r_iconst hx hb dJ9_canEncode_15 ?_
    exact s_zret hC hr hlk (by decide) hQ dJ9_canEncode_16 (by split <;> omega)
  · refine lv_iload_n hx hb dJ9_canEncode_4 rfl (lv_at hl 0 rfl) ?_
    refine r_sipush hx hb dJ9_canEncode_5 (by decide) ?_
    refine r_icmp_gt (tgt := 15) hx hb dJ9_canEncode_8 (by decide) rk (by decide) (fun c2 => ?_) (fun c2 => ?_)
    · refine r_iconst hx hb dJ9_canEncode_15 ?_
      exact s_zret hC hr hlk (by decide) hQ dJ9_canEncode_16 (by split <;> omega)
    · refine r_iconst hx hb dJ9_canEncode_11 ?_
      refine lv_goto (tgt := 16) hx hb dJ9_canEncode_12 (by decide) ?_
      exact s_zret hC hr hlk (by decide) hQ dJ9_canEncode_16 (by split <;> omega)
theorem dJ8_isLatin1_0 : decode cJ8_isLatin1 0 = .ok (.getstatic 38, 3) := by decide +kernel
theorem dJ8_isLatin1_3 : decode cJ8_isLatin1 3 = .ok (.ifCond .eq 14, 3) := by decide +kernel
theorem dJ8_isLatin1_6 : decode cJ8_isLatin1 6 = .ok (.aload_n 0, 1) := by decide +kernel
theorem dJ8_isLatin1_7 : decode cJ8_isLatin1 7 = .ok (.getfield 15, 3) := by decide +kernel
theorem dJ8_isLatin1_10 : decode cJ8_isLatin1 10 = .ok (.ifCond .ne 7, 3) := by decide +kernel
theorem dJ8_isLatin1_13 : decode cJ8_isLatin1 13 = .ok (.iconst 1, 1) := by decide +kernel
theorem dJ8_isLatin1_14 : decode cJ8_isLatin1 14 = .ok (.goto 4, 3) := by decide +kernel
theorem dJ8_isLatin1_18 : decode cJ8_isLatin1 18 = .ok (.ireturn, 1) := by decide +kernel
set_option maxHeartbeats 4000000 in
theorem met_isLatin1 (l : Launch) (adK adV st : Nat → Nat) (A : Nat → Prop) (i : Nat) (hi : i < 14) : JM l yJ8_isLatin1 cJ8_isLatin1 1 (some .boolean) (mrm 0) (EV adK adV st A) [.ref (adK i)] (vp_Si (fun r => r = iI (1))) := by
  refine j_start (by decide) rfl (Nat.le_of_ble_eq_true rfl) ?_
  intro p e R s m args below meth c ls Q hR hQ hC hml hr hlk hE hl
  have hx := hC.1
  have hb := hC.2.1
  have hown := hC.2.2.1
  have hts := hC.2.2.2
  have hS : va_S A s.heap s.heap [] := va_S.rf
  have hl : lv_has ls 1 [(0, .ref (adK i))] := hl
  refine va_gets hx hb hE.2.2.1.1 hS hown (hts _ q389) (fun x h => h) dJ8_isLatin1_0 ?_
  refine W.eq (g2 := F0 m 3 ls [.int (iI 1)]) rfl ?_
  refine r_if_eq (tgt := 17) hx hb dJ8_isLatin1_3 (by decide) (by decide) (fun c1 => absurd c1 (by decide)) (fun c1 => ?_)
  refine lv_aload_n hx hb dJ8_isLatin1_6 rfl (lv_at hl 0 rfl) ?_
  refine e_cod hx hb hE hS hi hown (hts _ q1567) dJ8_isLatin1_7 ?_
  refine r_if_ne (tgt := 17) hx hb dJ8_isLatin1_10 (by decide) (by decide) (fun c2 => absurd c2 (by decide)) (fun c2 => ?_)
  refine r_iconst hx hb dJ8_isLatin1_13 ?_
  refine lv_goto (tgt := 18) hx hb dJ8_isLatin1_14 (by decide) ?_
  exact j_nret hC hr hlk (nar_bool (by decide)) hQ dJ8_isLatin1_18 (rfl)
theorem dJ8_coder_0 : decode cJ8_coder 0 = .ok (.getstatic 38, 3) := by decide +kernel
theorem dJ8_coder_3 : decode cJ8_coder 3 = .ok (.ifCond .eq 10, 3) := by decide +kernel
theorem dJ8_coder_6 : decode cJ8_coder 6 = .ok (.aload_n 0, 1) := by decide +kernel
theorem dJ8_coder_7 : decode cJ8_coder 7 = .ok (.getfield 15, 3) := by decide +kernel
theorem dJ8_coder_10 : decode cJ8_coder 10 = .ok (.goto 4, 3) := by decide +kernel
theorem dJ8_coder_14 : decode cJ8_coder 14 = .ok (.ireturn, 1) := by decide +kernel
set_option maxHeartbeats 4000000 in
theorem met_coder (l : Launch) (adK adV st : Nat → Nat) (A : Nat → Prop) (i : Nat) (hi : i < 14) : JM l yJ8_coder cJ8_coder 1 (some .byte) (mrm 0) (EV adK adV st A) [.ref (adK i)] (vp_Si (fun r => r = iI (0))) := by
  refine j_start (by decide) rfl (Nat.le_of_ble_eq_true rfl) ?_
  intro p e R s m args below meth c ls Q hR hQ hC hml hr hlk hE hl
  have hx := hC.1
  have hb := hC.2.1
  have hown := hC.2.2.1
  have hts := hC.2.2.2
  have hS : va_S A s.heap s.heap [] := va_S.rf
  have hl : lv_has ls 1 [(0, .ref (adK i))] := hl
  refine va_gets hx hb hE.2.2.1.1 hS hown (hts _ q389) (fun x h => h) dJ8_coder_0 ?_
  refine W.eq (g2 := F0 m 3 ls [.int (iI 1)]) rfl ?_
  refine r_if_eq (tgt := 13) hx hb dJ8_coder_3 (by decide) (by decide) (fun c1 => absurd c1 (by decide)) (fun c1 => ?_)
  refine lv_aload_n hx hb dJ8_coder_6 rfl (lv_at hl 0 rfl) ?_
  refine e_cod hx hb hE hS hi hown (hts _ q1567) dJ8_coder_7 ?_
  refine lv_goto (tgt := 14) hx hb dJ8_coder_10 (by decide) ?_
  exact j_nret hC hr hlk (nar_byte (by decide)) hQ dJ8_coder_14 (rfl)
theorem dJ8_length_0 : decode cJ8_length 0 = .ok (.aload_n 0, 1) := by decide +kernel
theorem dJ8_length_1 : decode cJ8_length 1 = .ok (.getfield 9, 3) := by decide +kernel
theorem dJ8_length_4 : decode cJ8_length 4 = .ok (.arraylength, 1) := by decide +kernel
theorem dJ8_length_5 : decode cJ8_length 5 = .ok (.aload_n 0, 1) := by decide +kernel
theorem dJ8_length_6 : decode cJ8_length 6 = .ok (.invokevirtual 335, 3) := by decide +kernel
theorem dJ8_length_9 : decode cJ8_length 9 = .ok (.ishr, 1) := by decide +kernel
theorem dJ8_length_10 : decode cJ8_length 10 = .ok (.ireturn, 1) := by decide +kernel
set_option maxHeartbeats 4000000 in
theorem met_strlen (l : Launch) (adK adV st : Nat → Nat) (A : Nat → Prop) (i : Nat) (hi : i < 14) : JM l yJ8_length cJ8_length 1 (some .int) (mrm 1) (EV adK adV st A) [.ref (adK i)] (vp_Si (fun r => r = iI (sLn i))) := by
  refine j_start (by decide) rfl (Nat.le_of_ble_eq_true rfl) ?_
  intro p e R s m args below meth c ls Q hR hQ hC hml hr hlk hE hl
  have hx := hC.1
  have hb := hC.2.1
  have hown := hC.2.2.1
  have hts := hC.2.2.2
  have hS : va_S A s.heap s.heap [] := va_S.rf
  have hl : lv_has ls 1 [(0, .ref (adK i))] := hl
  refine lv_aload_n hx hb dJ8_length_0 rfl (lv_at hl 0 rfl) ?_
  refine e_val hx hb hE hS hi hown (hts _ q1568) dJ8_length_1 ?_
  refine e_len hx hb hE hS hi dJ8_length_4 ?_
  refine lv_aload_n hx hb dJ8_length_5 rfl (lv_at hl 0 rfl) ?_
  refine s_calli (j_runV (n := 0) (C := RJ8) (b := adK i) (rest := [.int (iI (sLn i))]) (as := []) hx hb hml hown hts (met_coder l adK adV st A i hi) EV.blind (hE.at hS) (e_rec hE hS hi) q395 q396 q397 q87 q398 (by decide +kernel) ⟨rfl, rfl⟩ hR (by decide) ⟨Nat.zero_le _, Nat.zero_le _⟩ rfl hl.1 rfl (Nat.le_of_ble_eq_true rfl) dJ8_length_6) ?_
  refine r_ishr hx hb dJ8_length_9 ?_
  exact j_iret hC hr hlk hQ dJ8_length_10 (shr_z (sLn_bd i))
theorem dJ8_checkIndex_0 : decode cJ8_checkIndex 0 = .ok (.iload_n 0, 1) := by decide +kernel
theorem dJ8_checkIndex_1 : decode cJ8_checkIndex 1 = .ok (.iload_n 1, 1) := by decide +kernel
theorem dJ8_checkIndex_2 : decode cJ8_checkIndex 2 = .ok (.getstatic 1053, 3) := by decide +kernel
theorem dJ8_checkIndex_5 : decode cJ8_checkIndex 5 = .ok (.invokestatic 1059, 3) := by decide +kernel
theorem dJ8_checkIndex_8 : decode cJ8_checkIndex 8 = .ok (.pop, 1) := by decide +kernel
theorem dJ8_checkIndex_9 : decode cJ8_checkIndex 9 = .ok (.return_, 1) := by decide +kernel
set_option maxHeartbeats 4000000 in
theorem met_chkIdx (l : Launch) (adK adV st : Nat → Nat) (A : Nat → Prop) (k n : Int) (hk : 0 ≤ k ∧ k < n) (hn : n ≤ 2147483647) : JM l yJ8_checkIndex cJ8_checkIndex 2 none (mrm 1) (EV adK adV st A) [.int (iI k), .int (iI n)] vp_Sv := by
  refine j_start (by decide) rfl (Nat.le_of_ble_eq_true rfl) ?_
  intro p e R s m args below meth c ls Q hR hQ hC hml hr hlk hE hl
  have hx := hC.1
  have hb := hC.2.1
  have hown := hC.2.2.1
  have hts := hC.2.2.2
  have hS : va_S A s.heap s.heap [] := va_S.rf
  have hl : lv_has ls 2 [(0, .int (iI k)), (1, .int (iI n))] := hl
  refine lv_iload_n hx hb dJ8_checkIndex_0 rfl (lv_at hl 0 rfl) ?_
  refine lv_iload_n hx hb dJ8_checkIndex_1 rfl (lv_at hl 1 rfl) ?_
  refine va_gets hx hb hE.2.2.1.2.1 hS hown (hts _ q430) (fun x h => h) dJ8_checkIndex_2 ?_
  refine W.eq (g2 := F0 m 5 ls [.ref (st 0), .int (iI n), .int (iI k)]) rfl ?_
  refine s_calli (j_runS (n := 3) (rest := []) (as := [.int (iI k), .int (iI n), .ref (st 0)]) hx hb hml hown hts ((met_pchk l k n (st 0) (by omega) (by omega)).jm) (fun _ _ _ _ _ => trivial) (fun _ _ _ => trivial) q484 q485 q81 q486 (by decide +kernel) ⟨rfl, rfl⟩ hR (by decide) ⟨Nat.zero_le _, Nat.zero_le _⟩ rfl hl.1 rfl (Nat.le_of_ble_eq_true rfl) dJ8_checkIndex_5) ?_
  refine lv_pop hx hb dJ8_checkIndex_8 rfl ?_
  exact j_vret hC hr hlk hQ dJ8_checkIndex_9
theorem dJ9_charAt_0 : decode cJ9_charAt 0 = .ok (.iload_n 1, 1) := by decide +kernel
theorem dJ9_charAt_1 : decode cJ9_charAt 1 = .ok (.aload_n 0, 1) := by decide +kernel
theorem dJ9_charAt_2 : decode cJ9_charAt 2 = .ok (.arraylength, 1) := by decide +kernel
theorem dJ9_charAt_3 : decode cJ9_charAt 3 = .ok (.invokestatic 9, 3) := by decide +kernel
theorem dJ9_charAt_6 : decode cJ9_charAt 6 = .ok (.aload_n 0, 1) := by decide +kernel
theorem dJ9_charAt_7 : decode cJ9_charAt 7 = .ok (.iload_n 1, 1) := by decide +kernel
theorem dJ9_charAt_8 : decode cJ9_charAt 8 = .ok (.baload, 1) := by decide +kernel
theorem dJ9_charAt_9 : decode cJ9_charAt 9 = .ok (.sipush 255, 3) := by decide +kernel
theorem dJ9_charAt_12 : decode cJ9_charAt 12 = .ok (.iand, 1) := by decide +kernel
theorem dJ9_charAt_13 : decode cJ9_charAt 13 = .ok (.i2c, 1) := by decide +kernel
theorem dJ9_charAt_14 : decode cJ9_charAt 14 = .ok (.ireturn, 1) := by decide +kernel
set_option maxHeartbeats 4000000 in
theorem met_l1charAt (l : Launch) (adK adV st : Nat → Nat) (A : Nat → Prop) (i : Nat) (k : Int) (hi : i < 14) (hk : 0 ≤ k ∧ k < sLn i) : JM l yJ9_charAt cJ9_charAt 2 (some .char) (mrm 2) (EV adK adV st A) [.ref (adV i), .int (iI k)] (vp_Si (fun r => r = iI (sCh i k))) := by
  refine j_start (by decide) rfl (Nat.le_of_ble_eq_true rfl) ?_
  intro p e R s m args below meth c ls Q hR hQ hC hml hr hlk hE hl
  have hx := hC.1
  have hb := hC.2.1
  have hown := hC.2.2.1
  have hts := hC.2.2.2
  have hS : va_S A s.heap s.heap [] := va_S.rf
  have hl : lv_has ls 2 [(0, .ref (adV i)), (1, .int (iI k))] := hl
  have hln := sLn_bd i
  have hch := ch_z (sCh_bd i k)
  refine lv_iload_n hx hb dJ9_charAt_0 rfl (lv_at hl 1 rfl) ?_
  refine lv_aload_n hx hb dJ9_charAt_1 rfl (lv_at hl 0 rfl) ?_
  refine e_len hx hb hE hS hi dJ9_charAt_2 ?_
  refine j_callv (j_runS (n := 2) (rest := []) (as := [.int (iI k), .int (iI (sLn i))]) hx hb hml hown hts (met_chkIdx l adK adV st A k (sLn i) (by omega) (by omega)) EV.blind (hE.at hS) q481 q482 q87 q483 (by decide +kernel) ⟨rfl, rfl⟩ hR (by decide) ⟨Nat.zero_le _, Nat.zero_le _⟩ rfl hl.1 rfl (Nat.le_of_ble_eq_true rfl) dJ9_charAt_3) ?_
  refine lv_aload_n hx hb dJ9_charAt_6 rfl (lv_at hl 0 rfl) ?_
  refine lv_iload_n hx hb dJ9_charAt_7 rfl (lv_at hl 1 rfl) ?_
  refine e_byt hx hb hE hS hi (by omega) dJ9_charAt_8 ?_
  refine r_sipush hx hb dJ9_charAt_9 (by decide) ?_
  refine r_iand hx hb dJ9_charAt_12 ?_
  refine r_i2c hx hb dJ9_charAt_13 ?_
  rw [hch.1, hch.2.1]
  have nrc := hch.2.2.2
  exact j_nret hC hr hlk nrc hQ dJ9_charAt_14 (rfl)
theorem dJ8_charAt_0 : decode cJ8_charAt 0 = .ok (.aload_n 0, 1) := by decide +kernel
theorem dJ8_charAt_1 : decode cJ8_charAt 1 = .ok (.invokevirtual 492, 3) := by decide +kernel
theorem dJ8_charAt_4 : decode cJ8_charAt 4 = .ok (.ifCond .eq 12, 3) := by decide +kernel
theorem dJ8_charAt_7 : decode cJ8_charAt 7 = .ok (.aload_n 0, 1) := by decide +kernel
theorem dJ8_charAt_8 : decode cJ8_charAt 8 = .ok (.getfield 9, 3) := by decide +kernel
theorem dJ8_charAt_11 : decode cJ8_charAt 11 = .ok (.iload_n 1, 1) := by decide +kernel
theorem dJ8_charAt_12 : decode cJ8_charAt 12 = .ok (.invokestatic 495, 3) := by decide +kernel
theorem dJ8_charAt_15 : decode cJ8_charAt 15 = .ok (.ireturn, 1) := by decide +kernel
set_option maxHeartbeats 4000000 in
theorem met_charAt (l : Launch) (adK adV st : Nat → Nat) (A : Nat → Prop) (i : Nat) (k : Int) (hi : i < 14) (hk : 0 ≤ k ∧ k < sLn i) : JM l yJ8_charAt cJ8_charAt 2 (some .char) (mrm 3) (EV adK adV st A) [.ref (adK i), .int (iI k)] (vp_Si (fun r => r = iI (sCh i k))) := by
  refine j_start (by decide) rfl (Nat.le_of_ble_eq_true rfl) ?_
  intro p e R s m args below meth c ls Q hR hQ hC hml hr hlk hE hl
  have hx := hC.1
  have hb := hC.2.1
  have hown := hC.2.2.1
  have hts := hC.2.2.2
  have hS : va_S A s.heap s.heap [] := va_S.rf
  have hl : lv_has ls 2 [(0, .ref (adK i)), (1, .int (iI k))] := hl
  refine lv_aload_n hx hb dJ8_charAt_0 rfl (lv_at hl 0 rfl) ?_
  refine s_calli (j_runV (n := 0) (C := RJ8) (b := adK i) (rest := []) (as := []) hx hb hml hown hts (met_isLatin1 l adK adV st A i hi) EV.blind (hE.at hS) (e_rec hE hS hi) q385 q386 q387 q87 q388 (by decide +kernel) ⟨rfl, rfl⟩ hR (by decide) ⟨Nat.zero_le _, Nat.zero_le _⟩ rfl hl.1 rfl (Nat.le_of_ble_eq_true rfl) dJ8_charAt_1) ?_
  refine r_if_eq (tgt := 16) hx hb dJ8_charAt_4 (by decide) (by decide) (fun c1 => absurd c1 (by decide)) (fun c1 => ?_)
  refine lv_aload_n hx hb dJ8_charAt_7 rfl (lv_at hl 0 rfl) ?_
  refine e_val hx hb hE hS hi hown (hts _ q1568) dJ8_charAt_8 ?_
  refine lv_iload_n hx hb dJ8_charAt_11 rfl (lv_at hl 1 rfl) ?_
  refine s_calli (j_runS (n := 2) (rest := []) (as := [.ref (adV i), .int (iI k)]) hx hb hml hown hts (met_l1charAt l adK adV st A i k hi (by omega)) EV.blind (hE.at hS) q478 q479 q88 q480 (by decide +kernel) ⟨rfl, rfl⟩ hR (by decide) ⟨Nat.zero_le _, Nat.zero_le _⟩ rfl hl.1 rfl (Nat.le_of_ble_eq_true rfl) dJ8_charAt_12) ?_
  have nrc := (ch_z (sCh_bd i k)).2.2.2
  exact j_nret hC hr hlk nrc hQ dJ8_charAt_15 (rfl)
theorem b8_hi {z : Int} (h : 128 ≤ z ∧ z ≤ 255) : b8 z < 0 := by
  have q : ∀ n : Nat, n < 128 → b8 (128 + n) < 0 := by decide +kernel
  have := q (z - 128).toNat (by omega)
  rw [show (128 : Int) + ((z - 128).toNat : Nat) = z by omega] at this
  exact this
theorem dJ9_indexOfChar_0 : decode cJ9_indexOfChar 0 = .ok (.iload_n 1, 1) := by decide +kernel
theorem dJ9_indexOfChar_1 : decode cJ9_indexOfChar 1 = .ok (.i2b, 1) := by decide +kernel
theorem dJ9_indexOfChar_2 : decode cJ9_indexOfChar 2 = .ok (.istore 4, 2) := by decide +kernel
theorem dJ9_indexOfChar_4 : decode cJ9_indexOfChar 4 = .ok (.iload_n 2, 1) := by decide +kernel
theorem dJ9_indexOfChar_5 : decode cJ9_indexOfChar 5 = .ok (.istore 5, 2) := by decide +kernel
theorem dJ9_indexOfChar_7 : decode cJ9_indexOfChar 7 = .ok (.iload 5, 2) := by decide +kernel
theorem dJ9_indexOfChar_9 : decode cJ9_indexOfChar 9 = .ok (.iload_n 3, 1) := by decide +kernel
theorem dJ9_indexOfChar_10 : decode cJ9_indexOfChar 10 = .ok (.if_icmp .ge 21, 3) := by decide +kernel
theorem dJ9_indexOfChar_13 : decode cJ9_indexOfChar 13 = .ok (.aload_n 0, 1) := by decide +kernel
theorem dJ9_indexOfChar_14 : decode cJ9_indexOfChar 14 = .ok (.iload 5, 2) := by decide +kernel
theorem dJ9_indexOfChar_16 : decode cJ9_indexOfChar 16 = .ok (.baload, 1) := by decide +kernel
theorem dJ9_indexOfChar_17 : decode cJ9_indexOfChar 17 = .ok (.iload 4, 2) := by decide +kernel
theorem dJ9_indexOfChar_19 : decode cJ9_indexOfChar 19 = .ok (.if_icmp .ne 6, 3) := by decide +kernel
theorem dJ9_indexOfChar_22 : decode cJ9_indexOfChar 22 = .ok (.iload 5, 2) := by decide +kernel
theorem dJ9_indexOfChar_24 : decode cJ9_indexOfChar 24 = .ok (.ireturn, 1) := by decide +kernel
theorem dJ9_indexOfChar_25 : decode cJ9_indexOfChar 25 = .ok (.iinc 5 1, 3) := by decide +kernel
theorem dJ9_indexOfChar_28 : decode cJ9_indexOfChar 28 = .ok (.goto (-21), 3) := by decide +kernel
theorem dJ9_indexOfChar_31 : decode cJ9_indexOfChar 31 = .ok (.iconst (-1), 1) := by decide +kernel
theorem dJ9_indexOfChar_32 : decode cJ9_indexOfChar 32 = .ok (.ireturn, 1) := by decide +kernel
set_option maxHeartbeats 4000000 in
theorem met_l1ixc (l : Launch) (adK adV st : Nat → Nat) (A : Nat → Prop) (i : Nat) (cz : Int) (hi : i < 14) (hc : 0 ≤ cz ∧ cz ≤ 255) (hln : 0 < sLn i) : JM l yJ9_indexOfChar cJ9_indexOfChar 6 (some .int) (mrm 0) (EV adK adV st A) [.ref (adV i), .int (iI cz), .int (iI 0), .int (iI (sLn i))] (vp_Si (fun r => r = iI (ixF (sCh i) cz (sLn i).toNat 0))) := by
  refine j_start (by decide) rfl (Nat.le_of_ble_eq_true rfl) ?_
  intro p e R s m args below meth c ls Q hR hQ hC hml hr hlk hE hl
  have hx := hC.1
  have hb := hC.2.1
  have hown := hC.2.2.1
  have hts := hC.2.2.2
  have hS : va_S A s.heap s.heap [] := va_S.rf
  have hl : lv_has ls 6 [(0, .ref (adV i)), (1, .int (iI cz)), (2, .int (iI 0)), (3, .int (iI (sLn i)))] := hl
  have hl0 := sLn_bd i
  refine lv_iload_n hx hb dJ9_indexOfChar_0 rfl (lv_at hl 1 rfl) ?_
  refine r_i2b hx hb dJ9_indexOfChar_1 ?_
  obtain ⟨b, hbz⟩ : ∃ b, b = b8 cz := ⟨_, rfl⟩
  rw [← hbz]
  have bb := b8_R cz
  rw [← hbz] at bb
  have hcb : ∀ k, sCh i k = b ↔ sCh i k = cz := by
    intro k
    have q := sCh_bd i k
    by_cases c1 : cz ≤ 127
    · rw [hbz, (ch_z ⟨hc.1, c1⟩).2.2.1]
    · have : b < 0 := by rw [hbz]; exact b8_hi (by omega)
      omega
  refine lv_istore (lv' := [(4, .int (iI b)), (0, .ref (adV i)), (1, .int (iI cz)), (2, .int (iI 0)), (3, .int (iI (sLn i)))]) hx hb dJ9_indexOfChar_2 hl (by decide) rfl (fun ls hl => ?_)
  refine lv_iload_n hx hb dJ9_indexOfChar_4 rfl (lv_at hl 3 rfl) ?_
  refine lv_istore (lv' := [(5, .int (iI 0)), (4, .int (iI b)), (0, .ref (adV i)), (1, .int (iI cz)), (2, .int (iI 0)), (3, .int (iI (sLn i)))]) hx hb dJ9_indexOfChar_5 hl (by decide) rfl (fun ls hl => ?_)
  have loop7_1 : ∀ (n : Nat) (k : Int), sLn i - k < (n : Int) → 0 ≤ k → k ≤ sLn i → ixF (sCh i) cz (sLn i - k).toNat k = ixF (sCh i) cz (sLn i).toNat 0 → ∀ (ls : Array Slot), lv_has ls 6 [(5, .int (iI k)), (4, .int (iI b)), (0, .ref (adV i)), (1, .int (iI cz)), (2, .int (iI 0)), (3, .int (iI (sLn i)))] → W p l e R s m args below meth c s.heap [] 0 0 Q (F0 m 7 ls []) := by
    intro n
    induction n with
    | zero => intro k hn3 hk0 hk1 ek; exfalso; omega
    | succ n ih2 =>
      intro k hn3 hk0 hk1 ek ls hl
      refine lv_iload hx hb dJ9_indexOfChar_7 (lv_at hl 0 rfl) ?_
      refine lv_iload_n hx hb dJ9_indexOfChar_9 rfl (lv_at hl 5 rfl) ?_
      refine r_icmp_ge (tgt := 31) hx hb dJ9_indexOfChar_10 (by decide) (by omega) (by omega) (fun c4 => ?_) (fun c4 => ?_)
      · refine r_iconst hx hb dJ9_indexOfChar_31 ?_
        exact j_iret hC hr hlk hQ dJ9_indexOfChar_32 (by rw [← ek, show (sLn i - k).toNat = 0 by omega]; rfl)
      · have hck := sCh_bd i k
        refine lv_aload_n hx hb dJ9_indexOfChar_13 rfl (lv_at hl 2 rfl) ?_
        refine lv_iload hx hb dJ9_indexOfChar_14 (lv_at hl 0 rfl) ?_
        refine e_byt hx hb hE hS hi (by omega) dJ9_indexOfChar_16 ?_
        refine lv_iload hx hb dJ9_indexOfChar_17 (lv_at hl 1 rfl) ?_
        refine r_icmp_ne (tgt := 25) hx hb dJ9_indexOfChar_19 (by decide) (by omega) (by omega) (fun cq => ?_) (fun cq => ?_)
        · refine lv_iinc (v := iI (k + 1)) (lv' := [(5, .int (iI (k + 1))), (4, .int (iI b)), (0, .ref (adV i)), (1, .int (iI cz)), (2, .int (iI 0)), (3, .int (iI (sLn i)))]) hx hb dJ9_indexOfChar_25 hl (k := 0) rfl (iI_add _ _) (by decide) rfl (fun ls hl => ?_)
          refine lv_goto (tgt := 7) hx hb dJ9_indexOfChar_28 (by decide) ?_
          exact ih2 (k + 1) (by omega) (by omega) (by omega) (by rw [← ek, ixF_s _ _ (k := k) (by omega), if_neg (fun q => cq ((hcb k).mpr q))]) _ (lv_sub hl [0, 1, 2, 3, 4, 5] rfl)
        · refine lv_iload hx hb dJ9_indexOfChar_22 (lv_at hl 0 rfl) ?_
          exact j_iret hC hr hlk hQ dJ9_indexOfChar_24 (by rw [← ek, ixF_s _ _ (k := k) (by omega), if_pos ((hcb k).mp cq)])
  exact loop7_1 ((sLn i - 0 : Int).toNat + 1) 0 (by omega) (by omega) (by omega) (by rw [Int.sub_zero]) _ (lv_sub hl [0, 1, 2, 3, 4, 5] rfl)
theorem dJ9_indexOf_0 : decode cJ9_indexOf 0 = .ok (.iload_n 1, 1) := by decide +kernel
theorem dJ9_indexOf_1 : decode cJ9_indexOf 1 = .ok (.invokestatic 88, 3) := by decide +kernel
theorem dJ9_indexOf_4 : decode cJ9_indexOf 4 = .ok (.ifCond .ne 5, 3) := by decide +kernel
theorem dJ9_indexOf_7 : decode cJ9_indexOf 7 = .ok (.iconst (-1), 1) := by decide +kernel
theorem dJ9_indexOf_8 : decode cJ9_indexOf 8 = .ok (.ireturn, 1) := by decide +kernel
theorem dJ9_indexOf_9 : decode cJ9_indexOf 9 = .ok (.iload_n 2, 1) := by decide +kernel
theorem dJ9_indexOf_10 : decode cJ9_indexOf 10 = .ok (.iconst 0, 1) := by decide +kernel
theorem dJ9_indexOf_11 : decode cJ9_indexOf 11 = .ok (.invokestatic 92, 3) := by decide +kernel
theorem dJ9_indexOf_14 : decode cJ9_indexOf 14 = .ok (.istore_n 2, 1) := by decide +kernel
theorem dJ9_indexOf_15 : decode cJ9_indexOf 15 = .ok (.iload_n 3, 1) := by decide +kernel
theorem dJ9_indexOf_16 : decode cJ9_indexOf 16 = .ok (.aload_n 0, 1) := by decide +kernel
theorem dJ9_indexOf_17 : decode cJ9_indexOf 17 = .ok (.arraylength, 1) := by decide +kernel
theorem dJ9_indexOf_18 : decode cJ9_indexOf 18 = .ok (.invokestatic 38, 3) := by decide +kernel
theorem dJ9_indexOf_21 : decode cJ9_indexOf 21 = .ok (.istore_n 3, 1) := by decide +kernel
theorem dJ9_indexOf_22 : decode cJ9_indexOf 22 = .ok (.iload_n 2, 1) := by decide +kernel
theorem dJ9_indexOf_23 : decode cJ9_indexOf 23 = .ok (.iload_n 3, 1) := by decide +kernel
theorem dJ9_indexOf_24 : decode cJ9_indexOf 24 = .ok (.if_icmp .lt 5, 3) := by decide +kernel
theorem dJ9_indexOf_27 : decode cJ9_indexOf 27 = .ok (.iconst (-1), 1) := by decide +kernel
theorem dJ9_indexOf_28 : decode cJ9_indexOf 28 = .ok (.ireturn, 1) := by decide +kernel
theorem dJ9_indexOf_29 : decode cJ9_indexOf 29 = .ok (.aload_n 0, 1) := by decide +kernel
theorem dJ9_indexOf_30 : decode cJ9_indexOf 30 = .ok (.iload_n 1, 1) := by decide +kernel
theorem dJ9_indexOf_31 : decode cJ9_indexOf 31 = .ok (.iload_n 2, 1) := by decide +kernel
theorem dJ9_indexOf_32 : decode cJ9_indexOf 32 = .ok (.iload_n 3, 1) := by decide +kernel
theorem dJ9_indexOf_33 : decode cJ9_indexOf 33 = .ok (.invokestatic 95, 3) := by decide +kernel
theorem dJ9_indexOf_36 : decode cJ9_indexOf 36 = .ok (.ireturn, 1) := by decide +kernel
set_option maxHeartbeats 4000000 in
theorem met_l1ix (l : Launch) (adK adV st : Nat → Nat) (A : Nat → Prop) (i : Nat) (cz : Int) (hi : i < 14) (hc : -128 ≤ cz ∧ cz ≤ 127) : JM l yJ9_indexOf cJ9_indexOf 4 (some .int) (mrm 1) (EV adK adV st A) [.ref (adV i), .int (iI cz), .int (iI 0), .int (iI (sLn i))] (vp_Si (fun r => r = iI (sIx i cz))) := by
  refine j_start (by decide) rfl (Nat.le_of_ble_eq_true rfl) ?_
  intro p e R s m args below meth c ls Q hR hQ hC hml hr hlk hE hl
  have hx := hC.1
  have hb := hC.2.1
  have hown := hC.2.2.1
  have hts := hC.2.2.2
  have hS : va_S A s.heap s.heap [] := va_S.rf
  have hl : lv_has ls 4 [(0, .ref (adV i)), (1, .int (iI cz)), (2, .int (iI 0)), (3, .int (iI (sLn i)))] := hl
  have hl0 := sLn_bd i
  refine lv_iload_n hx hb dJ9_indexOf_0 rfl (lv_at hl 1 rfl) ?_
  refine s_calli (j_runS (n := 1) (rest := []) (as := [.int (iI cz)]) hx hb hml hown hts ((met_canEnc l cz (by omega)).jm) (fun _ _ _ _ _ => trivial) (fun _ _ _ => trivial) q402 q403 q88 q404 (by decide +kernel) ⟨rfl, rfl⟩ hR (by decide) ⟨Nat.zero_le _, Nat.zero_le _⟩ rfl hl.1 rfl (Nat.le_of_ble_eq_true rfl) dJ9_indexOf_1) ?_
  refine r_ifneB (tgt := 9) hx hb dJ9_indexOf_4 (by decide) (fun c1 => ?_) (fun c1 => ?_)
  · refine lv_iload_n hx hb dJ9_indexOf_9 rfl (lv_at hl 2 rfl) ?_
    refine r_iconst hx hb dJ9_indexOf_10 ?_
    refine s_calli (j_runS (n := 2) (rest := []) (as := [.int (iI 0), .int (iI 0)]) hx hb hml hown hts ((met_max l 0 0 (by decide) (by decide)).jm) (fun _ _ _ _ _ => trivial) (fun _ _ _ => trivial) q405 q406 q76 q407 (by decide +kernel) ⟨rfl, rfl⟩ hR (by decide) ⟨Nat.zero_le _, Nat.zero_le _⟩ rfl hl.1 rfl (Nat.le_of_ble_eq_true rfl) dJ9_indexOf_11) ?_
    refine lv_istore_n (lv' := [(2, .int (iI (if 0 < 0 then 0 else 0))), (0, .ref (adV i)), (1, .int (iI cz)), (3, .int (iI (sLn i)))]) hx hb dJ9_indexOf_14 rfl hl (by decide) rfl (fun ls hl => ?_)
    refine lv_iload_n hx hb dJ9_indexOf_15 rfl (lv_at hl 3 rfl) ?_
    refine lv_aload_n hx hb dJ9_indexOf_16 rfl (lv_at hl 1 rfl) ?_
    refine e_len hx hb hE hS hi dJ9_indexOf_17 ?_
    refine s_calli (j_runS (n := 2) (rest := []) (as := [.int (iI (sLn i)), .int (iI (sLn i))]) hx hb hml hown hts ((met_min l (sLn i) (sLn i) (by omega) (by omega)).jm) (fun _ _ _ _ _ => trivial) (fun _ _ _ => trivial) q408 q374 q76 q375 (by decide +kernel) ⟨rfl, rfl⟩ hR (by decide) ⟨Nat.zero_le _, Nat.zero_le _⟩ rfl hl.1 rfl (Nat.le_of_ble_eq_true rfl) dJ9_indexOf_18) ?_
    refine lv_istore_n (lv' := [(3, .int (iI (if (sLn i) < (sLn i) then (sLn i) else (sLn i)))), (2, .int (iI (if 0 < 0 then 0 else 0))), (0, .ref (adV i)), (1, .int (iI cz))]) hx hb dJ9_indexOf_21 rfl hl (by decide) rfl (fun ls hl => ?_)
    have hl : lv_has ls 4 [(3, .int (iI (sLn i))), (2, .int (iI 0)), (0, .ref (adV i)), (1, .int (iI cz))] := by rw [show (if (0 : Int) < 0 then 0 else 0) = (0 : Int) from rfl, show (if sLn i < sLn i then sLn i else sLn i) = sLn i from if_neg (by omega)] at hl; exact hl
    refine lv_iload_n hx hb dJ9_indexOf_22 rfl (lv_at hl 1 rfl) ?_
    refine lv_iload_n hx hb dJ9_indexOf_23 rfl (lv_at hl 0 rfl) ?_
    refine r_icmp_lt (tgt := 29) hx hb dJ9_indexOf_24 (by decide) (by decide) (by omega) (fun c2 => ?_) (fun c2 => ?_)
    · refine lv_aload_n hx hb dJ9_indexOf_29 rfl (lv_at hl 2 rfl) ?_
      refine lv_iload_n hx hb dJ9_indexOf_30 rfl (lv_at hl 3 rfl) ?_
      refine lv_iload_n hx hb dJ9_indexOf_31 rfl (lv_at hl 1 rfl) ?_
      refine lv_iload_n hx hb dJ9_indexOf_32 rfl (lv_at hl 0 rfl) ?_
      refine s_calli (j_runS (n := 4) (rest := []) (as := [.ref (adV i), .int (iI cz), .int (iI 0), .int (iI (sLn i))]) hx hb hml hown hts (met_l1ixc l adK adV st A i cz hi (by omega) (by omega)) EV.blind (hE.at hS) q409 q410 q88 q411 (by decide +kernel) ⟨rfl, rfl⟩ hR (by decide) ⟨Nat.zero_le _, Nat.zero_le _⟩ rfl hl.1 rfl (Nat.le_of_ble_eq_true rfl) dJ9_indexOf_33) ?_
      exact j_iret hC hr hlk hQ dJ9_indexOf_36 ((if_pos (by omega)).symm)
    · refine r_iconst hx hb dJ9_indexOf_27 ?_
      exact j_iret hC hr hlk hQ dJ9_indexOf_28 (by unfold sIx; rw [if_pos (by omega), show (sLn i).toNat = 0 by omega]; rfl)
  · refine r_iconst hx hb dJ9_indexOf_7 ?_
    exact j_iret hC hr hlk hQ dJ9_indexOf_8 ((if_neg (by omega)).symm)
theorem dJ8_indexOf_2_0 : decode cJ8_indexOf_2 0 = .ok (.aload_n 0, 1) := by decide +kernel
theorem dJ8_indexOf_2_1 : decode cJ8_indexOf_2 1 = .ok (.invokevirtual 492, 3) := by decide +kernel
theorem dJ8_indexOf_2_4 : decode cJ8_indexOf_2 4 = .ok (.ifCond .eq 19, 3) := by decide +kernel
theorem dJ8_indexOf_2_7 : decode cJ8_indexOf_2 7 = .ok (.aload_n 0, 1) := by decide +kernel
theorem dJ8_indexOf_2_8 : decode cJ8_indexOf_2 8 = .ok (.getfield 9, 3) := by decide +kernel
theorem dJ8_indexOf_2_11 : decode cJ8_indexOf_2 11 = .ok (.iload_n 1, 1) := by decide +kernel
theorem dJ8_indexOf_2_12 : decode cJ8_indexOf_2 12 = .ok (.iload_n 2, 1) := by decide +kernel
theorem dJ8_indexOf_2_13 : decode cJ8_indexOf_2 13 = .ok (.aload_n 0, 1) := by decide +kernel
theorem dJ8_indexOf_2_14 : decode cJ8_indexOf_2 14 = .ok (.invokevirtual 505, 3) := by decide +kernel
theorem dJ8_indexOf_2_17 : decode cJ8_indexOf_2 17 = .ok (.invokestatic 637, 3) := by decide +kernel
theorem dJ8_indexOf_2_20 : decode cJ8_indexOf_2 20 = .ok (.goto 16, 3) := by decide +kernel
theorem dJ8_indexOf_2_36 : decode cJ8_indexOf_2 36 = .ok (.ireturn, 1) := by decide +kernel
set_option maxHeartbeats 4000000 in
theorem met_indexOf2 (l : Launch) (adK adV st : Nat → Nat) (A : Nat → Prop) (i : Nat) (cz : Int) (hi : i < 14) (hc : -128 ≤ cz ∧ cz ≤ 127) : JM l yJ8_indexOf_2 cJ8_indexOf_2 3 (some .int) (mrm 2) (EV adK adV st A) [.ref (adK i), .int (iI cz), .int (iI 0)] (vp_Si (fun r => r = iI (sIx i cz))) := by
  refine j_start (by decide) rfl (Nat.le_of_ble_eq_true rfl) ?_
  intro p e R s m args below meth c ls Q hR hQ hC hml hr hlk hE hl
  have hx := hC.1
  have hb := hC.2.1
  have hown := hC.2.2.1
  have hts := hC.2.2.2
  have hS : va_S A s.heap s.heap [] := va_S.rf
  have hl : lv_has ls 3 [(0, .ref (adK i)), (1, .int (iI cz)), (2, .int (iI 0))] := hl
  refine lv_aload_n hx hb dJ8_indexOf_2_0 rfl (lv_at hl 0 rfl) ?_
  refine s_calli (j_runV (n := 0) (C := RJ8) (b := adK i) (rest := []) (as := []) hx hb hml hown hts (met_isLatin1 l adK adV st A i hi) EV.blind (hE.at hS) (e_rec hE hS hi) q385 q386 q387 q87 q388 (by decide +kernel) ⟨rfl, rfl⟩ hR (by decide) ⟨Nat.zero_le _, Nat.zero_le _⟩ rfl hl.1 rfl (Nat.le_of_ble_eq_true rfl) dJ8_indexOf_2_1) ?_
  refine r_if_eq (tgt := 23) hx hb dJ8_indexOf_2_4 (by decide) (by decide) (fun c1 => absurd c1 (by decide)) (fun c1 => ?_)
  refine lv_aload_n hx hb dJ8_indexOf_2_7 rfl (lv_at hl 0 rfl) ?_
  refine e_val hx hb hE hS hi hown (hts _ q1568) dJ8_indexOf_2_8 ?_
  refine lv_iload_n hx hb dJ8_indexOf_2_11 rfl (lv_at hl 1 rfl) ?_
  refine lv_iload_n hx hb dJ8_indexOf_2_12 rfl (lv_at hl 2 rfl) ?_
  refine lv_aload_n hx hb dJ8_indexOf_2_13 rfl (lv_at hl 0 rfl) ?_
  refine s_calli (j_runV (n := 0) (C := RJ8) (b := adK i) (rest := [.int (iI 0), .int (iI cz), .ref (adV i)]) (as := []) hx hb hml hown hts (met_strlen l adK adV st A i hi) EV.blind (hE.at hS) (e_rec hE hS hi) q391 q392 q393 q87 q394 (by decide +kernel) ⟨rfl, rfl⟩ hR (by decide) ⟨Nat.zero_le _, Nat.zero_le _⟩ rfl hl.1 rfl (Nat.le_of_ble_eq_true rfl) dJ8_indexOf_2_14) ?_
  refine s_calli (j_runS (n := 4) (rest := []) (as := [.ref (adV i), .int (iI cz), .int (iI 0), .int (iI (sLn i))]) hx hb hml hown hts (met_l1ix l adK adV st A i cz hi (by omega)) EV.blind (hE.at hS) q399 q400 q88 q401 (by decide +kernel) ⟨rfl, rfl⟩ hR (by decide) ⟨Nat.zero_le _, Nat.zero_le _⟩ rfl hl.1 rfl (Nat.le_of_ble_eq_true rfl) dJ8_indexOf_2_17) ?_
  refine lv_goto (tgt := 36) hx hb dJ8_indexOf_2_20 (by decide) ?_
  exact j_iret hC hr hlk hQ dJ8_indexOf_2_36 (rfl)
theorem dJ8_indexOf_0 : decode cJ8_indexOf 0 = .ok (.aload_n 0, 1) := by decide +kernel
theorem dJ8_indexOf_1 : decode cJ8_indexOf 1 = .ok (.iload_n 1, 1) := by decide +kernel
theorem dJ8_indexOf_2 : decode cJ8_indexOf 2 = .ok (.iconst 0, 1) := by decide +kernel
theorem dJ8_indexOf_3 : decode cJ8_indexOf 3 = .ok (.invokevirtual 633, 3) := by decide +kernel
theorem dJ8_indexOf_6 : decode cJ8_indexOf 6 = .ok (.ireturn, 1) := by decide +kernel
set_option maxHeartbeats 4000000 in
theorem met_indexOf (l : Launch) (adK adV st : Nat → Nat) (A : Nat → Prop) (i : Nat) (cz : Int) (hi : i < 14) (hc : -128 ≤ cz ∧ cz ≤ 127) : JM l yJ8_indexOf cJ8_indexOf 2 (some .int) (mrm 3) (EV adK adV st A) [.ref (adK i), .int (iI cz)] (vp_Si (fun r => r = iI (sIx i cz))) := by
  refine j_start (by decide) rfl (Nat.le_of_ble_eq_true rfl) ?_
  intro p e R s m args below meth c ls Q hR hQ hC hml hr hlk hE hl
  have hx := hC.1
  have hb := hC.2.1
  have hown := hC.2.2.1
  have hts := hC.2.2.2
  have hS : va_S A s.heap s.heap [] := va_S.rf
  have hl : lv_has ls 2 [(0, .ref (adK i)), (1, .int (iI cz))] := hl
  refine lv_aload_n hx hb dJ8_indexOf_0 rfl (lv_at hl 0 rfl) ?_
  refine lv_iload_n hx hb dJ8_indexOf_1 rfl (lv_at hl 1 rfl) ?_
  refine r_iconst hx hb dJ8_indexOf_2 ?_
  refine s_calli (j_runV (n := 2) (C := RJ8) (b := adK i) (rest := []) (as := [.int (iI cz), .int (iI 0)]) hx hb hml hown hts (met_indexOf2 l adK adV st A i cz hi (by omega)) EV.blind (hE.at hS) (e_rec hE hS hi) q381 q382 q383 q87 q384 (by decide +kernel) ⟨rfl, rfl⟩ hR (by decide) ⟨Nat.zero_le _, Nat.zero_le _⟩ rfl hl.1 rfl (Nat.le_of_ble_eq_true rfl) dJ8_indexOf_3) ?_
  exact j_iret hC hr hlk hQ dJ8_indexOf_6 (rfl)
