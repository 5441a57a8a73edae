/-! THE COMPONENT: rows for the ruling clauses -/
set_option maxRecDepth 100000
section CRU
variable {p : Program} {l : Launch} {e : Env} {R : Room} {s : State} {m : MethodId} {args : Array Value} {below : List Frame} {meth : Method} {c : Code} {H : Heap} {locs : List Loc} {cells slots : Nat} {Q : State → Prop}
variable {cc : ByteArray} {pc : Nat} {ls : Array Slot} {rest st0 : List Value} {D : va_G} {E : Nat → ClassId} {A V : Nat → Prop} {ad nv : Nat → Nat} {C : Nat → va_E} {H0 : Heap} {own : String} {adK adV st : Nat → Nat}
variable {I : Nat → Int} {F : Nat → Int → Int} {S : Nat → Nat → Int} {Y : Nat → Int → Int} {L : Nat → Nat}
variable {y : MethodName} {bytes : ByteArray} {maxL nL n index b : Nat} {ret : Option FieldType} {rm rmc : Room} {as : List Value} {C0 : String}
theorem cC_30 : cC E ad I F S Y L 30 = .inl (E 7, 2, ar (fun j => if F 64 j = -1 then none else some (ad (31 + j)))) := rfl
theorem cC_31 {ci : Int} (h : 0 ≤ ci ∧ ci ≤ 1) : cC E ad I F S Y L (31 + ci.toNat) = .inl (E 6, (F 65 ci - F 64 ci).toNat, ar (fun j => some (ad (4000 + 1000 * ci.toNat + j)))) := by
  rcases (show ci = 0 ∨ ci = 1 by omega) with rfl | rfl
  · rfl
  · rfl
theorem cC_mk {ci k : Int} (h : 0 ≤ ci ∧ ci ≤ 1) (hk : 0 ≤ k ∧ k < 1000) : cC E ad I F S Y L (4000 + 1000 * ci.toNat + k.toNat) = mkE (F 62 (F 64 ci + k)) (F 63 (F 64 ci + k)) := by
  have ek : ((k.toNat : Nat) : Int) = k := by omega
  rcases (show ci = 0 ∨ ci = 1 by omega) with rfl | rfl
  · unfold cC
    rw [show (0 : Int).toNat = 0 from rfl, Nat.mul_zero, Nat.add_zero]
    repeat rw [if_neg (by omega)]
    rw [if_pos (by omega), show 4000 + k.toNat - 4000 = k.toNat by omega, ek]
  · unfold cC
    rw [show 4000 + 1000 * (1 : Int).toNat = 5000 from rfl]
    repeat rw [if_neg (by omega)]
    rw [show 5000 + k.toNat - 5000 = k.toNat by omega, ek]
theorem cl_30 {ci : Int} (hC : CK p m c cc s args own D E) (hG : CW D E A ad nv I F S Y L H) (hs : S 0 2 ≠ 0) (hc : 0 ≤ ci ∧ ci ≤ 1) {v : Value} (hv : va_rf (if F 64 ci = -1 then none else some (ad (31 + ci.toNat))) = v) (hdg : decode cc pc = .ok (.aaload, 1)) (kk : W p l e R s m args below meth c H locs cells slots Q (F0 m (pc + 1) ls (v :: rest))) : W p l e R s m args below meth c H locs cells slots Q (F0 m pc ls (.int (iI ci) :: .ref (ad 30) :: rest)) := g_aldA hC hG 30 (Or.inr (Or.inr (Or.inr (Or.inr (Or.inr (Or.inr (Or.inr (Or.inr ⟨hs, Or.inl rfl⟩)))))))) cC_30 (t := 7) rfl (by decide) (by omega) (by rw [← hv, show ((ci.toNat : Nat) : Int) = ci by omega]) hdg kk
theorem c_len31 {ci : Int} (hC : CK p m c cc s args own D E) (hG : CW D E A ad nv I F S Y L H) (hs : S 0 2 ≠ 0) (hc : 0 ≤ ci ∧ ci ≤ 1) (h64 : F 64 ci ≠ -1) (hle : F 64 ci ≤ F 65 ci) (hdg : decode cc pc = .ok (.arraylength, 1)) (kk : W p l e R s m args below meth c H locs cells slots Q (F0 m (pc + 1) ls (.int (iI (F 65 ci - F 64 ci)) :: rest))) : W p l e R s m args below meth c H locs cells slots Q (F0 m pc ls (.ref (ad (31 + ci.toNat)) :: rest)) := by
  have hV : cV nv F S (31 + ci.toNat) := by
    refine Or.inr (Or.inr (Or.inr (Or.inr (Or.inr (Or.inr (Or.inr (Or.inr ⟨hs, Or.inr ?_⟩)))))))
    rcases (show ci = 0 ∨ ci = 1 by omega) with rfl | rfl
    · exact Or.inl ⟨rfl, h64⟩
    · exact Or.inr (Or.inl ⟨rfl, h64⟩)
  refine va_alen hC.1 hC.2.1 hC.2.2.2.2 (va_P1 (cC_31 hc ▸ (hG _ hV).1)) 0 6 rfl rfl ?_ hdg kk
  rw [iI_nat]
  congr 1
  omega
theorem cl_31m {ci k : Int} (hC : CK p m c cc s args own D E) (hG : CW D E A ad nv I F S Y L H) (hs : S 0 2 ≠ 0) (hc : 0 ≤ ci ∧ ci ≤ 1) (h64 : F 64 ci ≠ -1) (h65 : F 65 ci - F 64 ci ≤ 300) (hk : 0 ≤ k ∧ k < F 65 ci - F 64 ci) (hdg : decode cc pc = .ok (.aaload, 1)) (kk : W p l e R s m args below meth c H locs cells slots Q (F0 m (pc + 1) ls (.ref (ad (4000 + 1000 * ci.toNat + k.toNat)) :: rest))) : W p l e R s m args below meth c H locs cells slots Q (F0 m pc ls (.int (iI k) :: .ref (ad (31 + ci.toNat)) :: rest)) := by
  have hV : cV nv F S (31 + ci.toNat) := by
    refine Or.inr (Or.inr (Or.inr (Or.inr (Or.inr (Or.inr (Or.inr (Or.inr ⟨hs, Or.inr ?_⟩)))))))
    rcases (show ci = 0 ∨ ci = 1 by omega) with rfl | rfl
    · exact Or.inl ⟨rfl, h64⟩
    · exact Or.inr (Or.inl ⟨rfl, h64⟩)
  exact g_ald hC hG (31 + ci.toNat) hV (cC_31 hc) (t := 6) rfl (by omega) (by omega) rfl hdg kk
theorem cV_mk {ci k : Int} (hs : S 0 2 ≠ 0) (hc : 0 ≤ ci ∧ ci ≤ 1) (h64 : F 64 ci ≠ -1) (h65 : F 65 ci - F 64 ci ≤ 300) (hk : 0 ≤ k ∧ k < F 65 ci - F 64 ci) : cV nv F S (4000 + 1000 * ci.toNat + k.toNat) := by
  refine Or.inr (Or.inr (Or.inr (Or.inr (Or.inr (Or.inr (Or.inr (Or.inr ⟨hs, Or.inr (Or.inr (Or.inr ?_))⟩)))))))
  rcases (show ci = 0 ∨ ci = 1 by omega) with rfl | rfl
  · refine Or.inl ⟨by omega, h64, ?_, ?_⟩
    · rw [show (0 : Int).toNat = 0 from rfl]
      omega
    · rw [show (0 : Int).toNat = 0 from rfl]
      omega
  · refine Or.inr ⟨by rw [show (1 : Int).toNat = 1 from rfl]; omega, h64, ?_, ?_⟩
    · rw [show (1 : Int).toNat = 1 from rfl]
      omega
    · rw [show (1 : Int).toNat = 1 from rfl]
      omega
/-- a call of Mark.does on a mark of class C0 -/
theorem c_runA {x : MethodName} {owner : String} (hC : CK p m c cc s args own D E) (hE : EV adK adV st A s) (hml : c.maxLocals = nL) {Qc : Array Value → State → Outcome → State → Prop} (hMet : CM l y bytes maxL ret rm adK adV st D E A ad nv (.ref b :: as) I F S Y L Qc)
    (hrec : ∃ cell : Cell, H[b]? = some cell ∧ cell.vm.isStatics = false ∧ s.vm.findClass C0 = some cell.cls)
    (h1 : Cond.methodLink own index x ∈ lw_all) (h2 : Cond.sameMethod x.cls owner x.name x.desc ∈ lw_all) (h3 : Cond.selects C0 x y ∈ lw_all) (h4 : Cond.instanceMethod y ∈ lw_all) (h5 : Cond.initialized y.cls ∈ lw_all) (h6 : Cond.code y bytes maxL ret ∈ lw_all) (h7 : Cond.declares ⟨owner, x.name, x.desc⟩ ∈ lw_tbl)
    (hd : owner ≠ "java/lang/invoke/MethodHandle" ∧ owner ≠ "java/lang/invoke/VarHandle" ∧ (parseMethodDescriptor x.desc).map (fun d => d.parameters.length) = some n) (hrm : rm.cells = 0 ∧ rm.slots = 0) (hR : R = rmc) (hRR : rm.frames + 1 ≤ rmc.frames ∧ 8 + (maxL + 11) + rm.locals ≤ rmc.locals) (hcs : cells ≤ R.cells ∧ slots ≤ R.slots)
    (hG : CW D E A ad nv I F S Y L H) (hS : va_S A s.heap H locs) (hlen : as.length = n) (hsz : ls.size = nL) (hst : st0 = as.reverse ++ .ref b :: rest) (hcat : (rest.map fun v => v.category).sum ≤ 8) (hdg : decode cc pc = .ok (.invokevirtual index, 3)) :
    va_Run p l e R s m args below meth c H locs cells slots 0 0 (F0 m pc ls st0) rest (Qc (Value.ref b :: as).toArray) A := by
  subst hR
  have hT : GoodIn lw_all (va_wsU own index C0 owner x y (ws_ y bytes maxL ret)) := by
    refine lw_app (fun w hw => ?_) (lw_meth h6)
    rcases List.mem_cons.mp hw with rfl | hw
    · exact h1
    rcases List.mem_cons.mp hw with rfl | hw
    · exact h2
    rcases List.mem_cons.mp hw with rfl | hw
    · exact h3
    rcases List.mem_cons.mp hw with rfl | hw
    · exact h4
    rcases List.mem_cons.mp hw with rfl | hw
    · exact h5
    · cases hw
  exact va_runU (C := C0) (As := as) (rest := rest) ⟨hC.1, hC.2.1, hml, hC.2.2.1, hC.2.2.2.1⟩ hMet (va_cwA n hC.2.2.2.1 hT rfl hrm.1 hrm.2 (hE.2.2.2.2.1 _ (nw_w h7 rfl)) hd hRR) ⟨fun a U g mk q => ⟨q.1, GB.blind a U g mk q.2⟩, hrec, fun U hU hW => ⟨rfl, GB.at hC.2.2.2.2 hG hE hS U hU hW⟩⟩ rfl hlen hsz hst (lv_room hcat) hdg ⟨hcs.1, hcs.2⟩
end CRU
