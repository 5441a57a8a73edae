/-! ROWS for the constructors: arrays of arrays, arrays of longs; the Model half made -/
set_option maxRecDepth 100000
section AL84
variable {T : State}
variable {p : Program} {l : Launch} {e : Env} {R : Room} {s : State} {m : MethodId} {args : Array Value} {below : List Frame} {meth : Method} {c : Code} {H : Heap} {locs : List Loc} {cells slots : Nat} {Q : State → Prop}
variable {cc : ByteArray} {pc index : Nat} {ls : Array Slot} {rest st0 : List Value} {D : va_G} {E : Nat → ClassId} {A V : Nat → Prop} {ad : Nat → Nat} {C : Nat → va_E} {H0 : Heap} {own : String} {adK adV st : Nat → Nat}
theorem mu_upd (cA : ClassId) (N h0 i : Nat) : (arrV cA N (fun j => if j < i then .ref (h0 + 1 + j) else .null)).setSlot i (.ref (h0 + 1 + i)) = arrV cA N (fun j => if j < i + 1 then .ref (h0 + 1 + j) else .null) := by
  rw [arrV_store]
  congr 1
  funext j
  unfold updV
  by_cases c : j = i
  · rw [if_pos c, if_pos (by omega), c]
  · rw [if_neg c]
    show (if j < i then Value.ref (h0 + 1 + j) else .null) = _
    by_cases c2 : j < i
    · rw [if_pos c2, if_pos (by omega)]
    · rw [if_neg c2, if_neg (by omega)]
/-- the state when i rows of a grid of N rows of K ints have been made -/
def mu_st (S : State) (cA comp : ClassId) (N K : Nat) : Nat → State
  | 0 => S.pushCell (arrV cA N (fun _ => .null))
  | i + 1 => ((mu_st S cA comp N K i).pushCell (arrV comp K (fun _ => .int (iI 0)))).setCell S.heap.size (arrV cA N (fun j => if j < i + 1 then .ref (S.heap.size + 1 + j) else .null))
theorem mu_heap (S : State) (cA comp : ClassId) (N K : Nat) : ∀ i : Nat, (mu_st S cA comp N K i).heap.size = S.heap.size + 1 + i ∧ (mu_st S cA comp N K i).vm = S.vm ∧ (mu_st S cA comp N K i).heap[S.heap.size]? = some (arrV cA N (fun j => if j < i then .ref (S.heap.size + 1 + j) else .null)) ∧ (∀ q : Nat, q < S.heap.size → (mu_st S cA comp N K i).heap[q]? = S.heap[q]?) ∧ ∀ j : Nat, j < i → (mu_st S cA comp N K i).heap[S.heap.size + 1 + j]? = some (arrV comp K (fun _ => .int (iI 0))) := by
  intro i
  induction i with
  | zero => exact ⟨by simp [mu_st], rfl, by simp [mu_st], fun q hq => State.heap_pushCell_of_lt _ _ hq, fun j hj => absurd hj (Nat.not_lt_zero _)⟩
  | succ i ih =>
    obtain ⟨h1, h2, h3, h4, h5⟩ := ih
    generalize hS : mu_st S cA comp N K i = Z at h1 h2 h3 h4 h5
    have hp : ∀ q : Nat, q < S.heap.size + 1 + i → (Z.pushCell (arrV comp K (fun _ => .int (iI 0)))).heap[q]? = Z.heap[q]? := fun q hq => State.heap_pushCell_of_lt _ _ (by rw [h1]; exact hq)
    unfold mu_st
    rw [hS]
    refine ⟨by simp [State.setCell, h1]; omega, by simp [h2], State.heap_setCell_self ((hp _ (by omega)).trans h3), fun q hq => ?_, fun j hj => ?_⟩
    · rw [State.heap_setCell_other (show S.heap.size ≠ q by omega), hp q (by omega)]
      exact h4 q hq
    · rw [State.heap_setCell_other (show S.heap.size ≠ S.heap.size + 1 + j by omega)]
      by_cases c : j < i
      · rw [hp _ (by omega)]
        exact h5 j c
      · have e : S.heap.size + 1 + j = Z.heap.size := by omega
        rw [e]
        exact State.heap_pushCell_size _ _
theorem mu_top (S : State) (f : JFrame) (cA comp : ClassId) (N K : Nat) : ∀ i : Nat, mu_st (S.setTop f) cA comp N K i = (mu_st S cA comp N K i).setTop f := by
  intro i
  induction i with
  | zero => rfl
  | succ i ih =>
    unfold mu_st
    rw [ih]
    simp only [State.heap_setTop, State.pushCell_setTop, State.setCell_setTop]
theorem mu_stand (X : Stand p l e R s m args below meth c T locs cells slots) (cA comp : ClassId) (N K : Nat) : ∀ i : Nat, ∃ locs' : List Loc, Stand p l e R s m args below meth c (mu_st T cA comp N K i) locs' (cells + 1 + i) (slots + N + i * K) ∧ ∀ x ∈ locs', x ∈ locs ∨ x.base = T.heap.size := by
  intro i
  induction i with
  | zero =>
    have h := X.pushed (arrV cA N (fun _ => .null))
    rw [arrV_size] at h
    exact ⟨locs, by rw [Nat.add_zero, Nat.zero_mul, Nat.add_zero]; exact h, fun x hx => Or.inl hx⟩
  | succ i ih =>
    obtain ⟨lo, Xi, hlo⟩ := ih
    obtain ⟨h1, -, h3, -, -⟩ := mu_heap T cA comp N K i
    have hlt : T.heap.size < (mu_st T cA comp N K i).heap.size := by rw [h1]; omega
    have hc : ((mu_st T cA comp N K i).pushCell (arrV comp K (fun _ => .int (iI 0)))).heap[T.heap.size]? = some (arrV cA N (fun j => if j < i then .ref (T.heap.size + 1 + j) else .null)) := (State.heap_pushCell_of_lt _ _ hlt).trans h3
    have h := (Xi.pushed (arrV comp K (fun _ => .int (iI 0)))).stored hc i (.ref (T.heap.size + 1 + i))
    rw [arrV_size, mu_upd] at h
    refine ⟨lo ++ [⟨T.heap.size, i⟩], ?_, fun x hx => ?_⟩
    · have e1 : slots + N + (i + 1) * K = slots + N + i * K + K := by rw [Nat.succ_mul]; omega
      rw [e1]
      exact h
    · rcases List.mem_append.mp hx with g | g
      · exact hlo x g
      · rw [List.mem_singleton.mp g]
        exact Or.inr rfl
theorem mu_new {S : State} {cA comp : ClassId} {kA : Class} {ty : FieldType} {N : Nat} {init : Value} {EE : CtlPost} {d : Bool} {acts : List Action} {Qc : Addr → Pre} (hk : S.vm.classes[cA]? = some kA) (hkind : kA.kind = .array comp ty) (h1 : N ≤ e.platform.arrayLengthLimit) (h2 : N * componentBytes ty ≤ e.platform.maxHeapBytes) (hfit : fits ty init = true) (hdef : init.isDefault = true) (hr : S.heap.size < e.platform.maxCells ∧ S.slotsUsed + N ≤ e.platform.maxSlots) (hq : ∀ acts', Qc S.heap.size d acts' (S.pushCell (arrV cA N (fun _ => init)))) : Sem.wp (Jvm.newArray cA N init) Qc EE e d acts S := by
  have hl : ¬ N > e.platform.arrayLengthLimit := by omega
  have hh : ¬ N * componentBytes ty > e.platform.maxHeapBytes := by omega
  simp only [Jvm.newArray, Jvm.arrayFits, wp_bind', W.ask, W.ite, hl, if_false, wp_pure', W.theClass, hk, hkind, hh, W.alloc, W.stop, Option.some.injEq, exists_eq_left', Array.size_replicate]
  rw [if_neg (by omega)]
  refine ⟨hr.1, hr.2, fun i v hv => ?_, ?_⟩
  · rw [Array.getElem?_replicate] at hv
    split at hv
    · cases hv
      simp [State.fitsSlot, State.slotType?, hk, hkind, hfit]
    · cases hv
  · rw [arrV_new]
    exact hq _
theorem mu_wp {S : State} {cA comp cc0 : ClassId} {kA kC : Class} {n k : Int32} {N K : Nat} {EE : CtlPost} {d : Bool} {acts : List Action} {Qc : Addr → Pre} (hkA : S.vm.classes[cA]? = some kA) (hkindA : kA.kind = .array comp (.array .int)) (hkC : S.vm.classes[comp]? = some kC) (hkindC : kC.kind = .array cc0 .int) (hn : ¬ n < 0) (hk : ¬ k < 0) (eN : n.toNatClampNeg = N) (eK : k.toNatClampNeg = K) (h1 : N ≤ e.platform.arrayLengthLimit) (h2 : K ≤ e.platform.arrayLengthLimit) (h3 : N * 4 ≤ e.platform.maxHeapBytes) (h4 : K * 4 ≤ e.platform.maxHeapBytes) (hr0 : S.heap.size < e.platform.maxCells ∧ S.slotsUsed + N ≤ e.platform.maxSlots) (hr : ∀ i, i < N → (mu_st S cA comp N K i).heap.size < e.platform.maxCells ∧ (mu_st S cA comp N K i).slotsUsed + K ≤ e.platform.maxSlots) (hq : ∀ d' acts', Qc S.heap.size d' acts' (mu_st S cA comp N K N)) : Sem.wp (multianewarray.make cA [n, k]) Qc EE e d acts S := by
  rw [multianewarray.make]
  simp only [wp_bind', W.ite, hn, if_false, wp_pure', W.theClass, hkA, hkindA, Option.some.injEq, exists_eq_left', eN]
  refine mu_new hkA hkindA h1 h3 rfl rfl hr0 (fun acts' => ?_)
  simp only [show ([k].find? (· < 0)) = none by simp [hk]]
  rw [ite_self, wp_bind', Std.Legacy.Range.forIn_eq_forIn_range', show ([:N] : Std.Legacy.Range).size = N by simp [Std.Legacy.Range.size]]
  refine wp_forIn_inv (fun xs S' => xs = List.range' (N - xs.length) xs.length ∧ xs.length ≤ N ∧ S' = mu_st S cA comp N K (N - xs.length)) _ _ ?_ ?_ ?_
  · refine ⟨by simp, by simp, ?_⟩
    simp
    rfl
  · rintro x xs S' d' acts2 Q' ⟨hl, hlen, rfl⟩ hnext
    rw [List.length_cons] at hl hlen
    rw [List.range'_succ] at hl
    obtain ⟨hx0, hxs⟩ := List.cons.inj hl
    have hi : N - (xs.length + 1) < N := by omega
    obtain ⟨g1, g2, g3, -, -⟩ := mu_heap S cA comp N K (N - (xs.length + 1))
    rw [List.length_cons]
    rw [← hx0] at hi g1 g2 g3 ⊢
    simp only [wp_bind']
    rw [multianewarray.make]
    simp only [wp_bind', W.ite, hk, if_false, wp_pure', W.theClass, g2, hkC, hkindC, Option.some.injEq, exists_eq_left', eK]
    refine mu_new (by rw [g2]; exact hkC) hkindC h2 h4 rfl rfl (hr x hi) (fun acts3 => ?_)
    simp only [wp_bind', W.writeLoc, wp_pure']
    have hlt : S.heap.size < (mu_st S cA comp N K x).heap.size := by rw [g1]; omega
    refine ⟨_, (State.heap_pushCell_of_lt _ _ hlt).trans g3, (by intro q; cases q), (by rw [arrV_size]; exact hi), ?_, hnext _ _ _ ⟨?_, by omega, ?_⟩⟩
    · simp [State.fitsSlot, State.slotType?, g2, arrV, hkA, hkindA]
      rfl
    · rw [show N - xs.length = N - (xs.length + 1) + 1 by omega]
      exact hxs
    · rw [show N - xs.length = x + 1 by omega, g1, mu_upd]
      rfl
  · rintro S' d' acts2 ⟨-, -, rfl⟩
    simp only [wp_pure']
    exact hq _ _
theorem a_multi {nm : String} (hC : CK p m c cc s args own D E) (hG : GW D A V ad C H) (hS : va_S A s.heap H locs) (hA : ∀ q, s.heap.size ≤ q → A q) (ro rb : Nat) (enm : ("[" ++ (FieldType.array .int).toString) = nm) (hcl : Cond.classLink own index nm ∈ lw_all) (hover : (Cond.arrayOver (.array .int)).before args s = true) {zn zk : Int} {N K : Nat} (hz : zn = N) (hzk : zk = K) (hN : N ≤ 1000) (hKb : K ≤ 1000) (hne : ro < rb ∨ rb + N ≤ ro) (hcells : cells + (1 + N) ≤ R.cells) (hslots : slots + (N + N * K) ≤ R.slots) (hdg : decode cc pc = .ok (.multianewarray index 2, 4))
    (kk : ∀ (x : Nat) (ad1 : Nat → Nat) (C1 : Nat → va_E) (H1 : Heap) (locs1 : List Loc), ad1 ro = x → C1 ro = .inl (E 4, N, ar (fun j => some (ad1 (rb + j)))) → (∀ q, rb ≤ q → q < rb + N → C1 q = .inl (E 0, K, ai (fun _ => 0))) → (∀ q, q ≠ ro ∧ (q < rb ∨ rb + N ≤ q) → ad1 q = ad q ∧ C1 q = C q) → GW D A (fun q => V q ∨ q = ro ∨ (rb ≤ q ∧ q < rb + N)) ad1 C1 H1 → va_S A s.heap H1 locs1 → W p l e R s m args below meth c H1 locs1 (cells + (1 + N)) (slots + (N + N * K)) Q (F0 m (pc + 4) ls (.ref x :: rest))) : W p l e R s m args below meth c H locs cells slots Q (F0 m pc ls (.int (iI zk) :: .int (iI zn) :: rest)) := by
  obtain ⟨hx, hb, hown, hts, hK⟩ := hC
  subst hz
  subst hzk
  subst enm
  have hin := (iI_cl (z := (N : Int)) ⟨by omega, by omega⟩).trans (Int.toNat_natCast N)
  have hik := (iI_cl (z := (K : Int)) ⟨by omega, by omega⟩).trans (Int.toNat_natCast K)
  intro T hT X
  obtain ⟨comp, cA, kA, hcomp, -, hkA, hkindA, hnameA⟩ := arrayOverA_spec hover
  have hcA : cA = E 4 := Option.some.inj (hnameA.symm.trans (hK.2 4 _ rfl).2)
  have hco : comp = E 0 := Option.some.inj (hcomp.symm.trans (hK.2 0 _ rfl).2)
  subst hcA
  subst hco
  obtain ⟨co2, kC, cc0, hcomp2, hkC, hkindC⟩ := Cond.arrayClass_spec (hts _ q129)
  have hco2 : co2 = E 0 := Option.some.inj (hcomp2.symm.trans (hK.2 0 _ rfl).2)
  subst hco2
  obtain ⟨vm1, hW1, hgv⟩ : ∃ vm1 : Vm, s.WarmedH vm1 ∧ (resolveClass m.cls index).Gives e.toSetting T.vm (Except.ok (E 4)) vm1 := by
    obtain ⟨c0, hf0, hcl0⟩ := Cond.classLink_spec hown (hts _ hcl) e.platform (by rw [X.admits.platform])
    have e0 : c0 = E 4 := Option.some.inj (hf0.symm.trans hnameA)
    subst e0
    obtain ⟨g1, g2, -⟩ := State.classEntry (e := e) X.warmed hcl0
    exact ⟨_, g2, g1⟩
  have X1 := X.noted hW1
  have hTh : (T.setVm vm1).heap = H := hT
  obtain ⟨kA1, hkA1, eA1⟩ := hW1.alike.2.2 _ _ hkA
  obtain ⟨kC1, hkC1, eC1⟩ := hW1.alike.2.2 _ _ hkC
  have hkA2 : kA1.kind = .array (E 0) (.array .int) := by rw [eA1]; exact hkindA
  have hkC2 : kC1.kind = .array cc0 .int := by rw [eC1]; exact hkindC
  obtain ⟨locs2, X2, hlo2⟩ := mu_stand X1 (E 4) (E 0) N K N
  obtain ⟨f1, f2, f3, fo, fi⟩ := mu_heap (T.setVm vm1) (E 4) (E 0) N K N
  have step : ∀ target, Steps p.tables e below ((mu_st (T.setVm vm1) (E 4) (E 0) N K N).setTop (F0 m (pc + 4) ls (.ref H.size :: rest))) target → Steps p.tables e below (T.setTop (F0 m pc ls (.int (iI (K : Int)) :: .int (iI (N : Int)) :: rest))) target := by
    intro target hrest
    subst hb
    jvm_step X.here [hx, hdg]
    simp only [multianewarray.sem, wp_bind', W.resolveClassAt_links (State.method?_setTop (F0 m pc ls (.int (iI (K : Int)) :: .int (iI (N : Int)) :: rest)) X.here.top) hgv]
    rw [W.popN, if_neg (by decide)]
    refine ⟨_, State.topJava?_setTop' (s := T.setVm vm1) (F0 m pc ls (.int (iI (K : Int)) :: .int (iI (N : Int)) :: rest)) X.here.top, [.int (iI (N : Int)), .int (iI (K : Int))], rest, rfl, rfl, ?_⟩
    simp only [List.mapM_cons, List.mapM_nil, wp_bind', wp_pure']
    have eS : ((T.setTop (F0 m pc ls (.int (iI (K : Int)) :: .int (iI (N : Int)) :: rest))).setVm vm1).setTop (F0 m pc ls rest) = (T.setVm vm1).setTop (F0 m pc ls rest) := by
      show ((T.setVm vm1).setTop _).setTop _ = _
      rw [State.setTop_setTop]
    show Sem.wp (multianewarray.make (E 4) [iI (N : Int), iI (K : Int)]) _ _ _ _ _ (((T.setTop (F0 m pc ls (.int (iI (K : Int)) :: .int (iI (N : Int)) :: rest))).setVm vm1).setTop (F0 m pc ls rest))
    rw [eS]
    refine mu_wp (kA := kA1) (kC := kC1) (comp := E 0) (cc0 := cc0) hkA1 hkA2 hkC1 hkC2 (iI_nn (by omega) (by omega)) (iI_nn (by omega) (by omega)) hin hik (by rw [Launch.admits_arrayLengthLimit X.admits]; omega) (by rw [Launch.admits_arrayLengthLimit X.admits]; omega) (by rw [Launch.admits_maxHeapBytes X.admits]; omega) (by rw [Launch.admits_maxHeapBytes X.admits]; omega) ?_ ?_ (fun d' acts' => ?_)
    · obtain ⟨r1, r2⟩ := X1.roomAbove (a := 1) (b := N) (by omega) (by have := Nat.zero_le (N * K); omega)
      exact ⟨by show (T.setVm vm1).heap.size < _; omega, r2⟩
    · intro i hi
      rw [mu_top]
      obtain ⟨lo, Xi, -⟩ := mu_stand X1 (E 4) (E 0) N K i
      have hm : i * K + K ≤ N * K := by
        have := Nat.mul_le_mul_right K (show i + 1 ≤ N from hi)
        rw [Nat.succ_mul] at this
        exact this
      obtain ⟨r1, r2⟩ := Xi.roomAbove (a := 1) (b := K) (by omega) (by omega)
      exact ⟨by show (mu_st (T.setVm vm1) (E 4) (E 0) N K i).heap.size < _; omega, r2⟩
    · rw [mu_top]
      simp only [wp_bind', W.mark, W.pushRef, State.topJava?_setTop' _ X2.here.top, Option.some.injEq, exists_eq_left', State.setTop_setTop, State.heap_setTop]
      intro acts
      simp [jvm, X2.here.top]
      rw [show Array.size T.heap = H.size by rw [hT]]
      exact hrest
  generalize hX : mu_st (T.setVm vm1) (E 4) (E 0) N K N = T2 at X2 step f1 f2 f3 fo fi
  rw [hTh] at f1 f3 fo fi hlo2
  have hTs : T.heap.size = H.size := by rw [hT]
  have hA1 : ∃ ad1 : Nat → Nat, ad1 ro = H.size ∧ (∀ q, rb ≤ q → q < rb + N → ad1 q = H.size + 1 + (q - rb)) ∧ ∀ q, q ≠ ro ∧ (q < rb ∨ rb + N ≤ q) → ad1 q = ad q := by
    refine ⟨fun q => if q = ro then H.size else if rb ≤ q ∧ q < rb + N then H.size + 1 + (q - rb) else ad q, if_pos rfl, fun q h1 h2 => ?_, fun q h => ?_⟩
    · show (if q = ro then H.size else if rb ≤ q ∧ q < rb + N then H.size + 1 + (q - rb) else ad q) = _
      rw [if_neg (by omega), if_pos ⟨h1, h2⟩]
    · show (if q = ro then H.size else if rb ≤ q ∧ q < rb + N then H.size + 1 + (q - rb) else ad q) = _
      rw [if_neg h.1, if_neg (by omega)]
  obtain ⟨ad1, a1, a2, a3⟩ := hA1
  have hC1 : ∃ C1 : Nat → va_E, C1 ro = .inl (E 4, N, ar (fun j => some (ad1 (rb + j)))) ∧ (∀ q, rb ≤ q → q < rb + N → C1 q = .inl (E 0, K, ai (fun _ => 0))) ∧ ∀ q, q ≠ ro ∧ (q < rb ∨ rb + N ≤ q) → C1 q = C q := by
    refine ⟨fun q => if q = ro then .inl (E 4, N, ar (fun j => some (ad1 (rb + j)))) else if rb ≤ q ∧ q < rb + N then .inl (E 0, K, ai (fun _ => 0)) else C q, if_pos rfl, fun q h1 h2 => ?_, fun q h => ?_⟩
    · show (if q = ro then .inl (E 4, N, ar (fun j => some (ad1 (rb + j)))) else if rb ≤ q ∧ q < rb + N then .inl (E 0, K, ai (fun _ => 0)) else C q) = _
      rw [if_neg (by omega), if_pos ⟨h1, h2⟩]
    · show (if q = ro then .inl (E 4, N, ar (fun j => some (ad1 (rb + j)))) else if rb ≤ q ∧ q < rb + N then .inl (E 0, K, ai (fun _ => 0)) else C q) = _
      rw [if_neg h.1, if_neg (by omega)]
  obtain ⟨C1, c1, c2, c3⟩ := hC1
  have hG1 : GW D A (fun q => V q ∨ q = ro ∨ (rb ≤ q ∧ q < rb + N)) ad1 C1 T2.heap := by
    have key : ∀ r, (V r ∨ r = ro ∨ (rb ≤ r ∧ r < rb + N)) → (r = ro ∧ ad1 r = H.size) ∨ ((rb ≤ r ∧ r < rb + N) ∧ ad1 r = H.size + 1 + (r - rb)) ∨ (V r ∧ (r ≠ ro ∧ (r < rb ∨ rb + N ≤ r)) ∧ ad1 r = ad r ∧ ad r < H.size) := by
      intro r h
      by_cases h1 : r = ro
      · exact Or.inl ⟨h1, by rw [h1]; exact a1⟩
      · by_cases h2 : rb ≤ r ∧ r < rb + N
        · exact Or.inr (Or.inl ⟨h2, a2 r h2.1 h2.2⟩)
        · rcases h with h | h | h
          · exact Or.inr (Or.inr ⟨h, ⟨h1, by omega⟩, a3 r ⟨h1, by omega⟩, hG.lt h⟩)
          · exact absurd h h1
          · exact absurd h h2
    intro r hr
    refine ⟨?_, ?_, fun q hq he => ?_⟩
    · rcases key r hr with ⟨h1, h2⟩ | ⟨h1, h2⟩ | ⟨h1, h2, h3, h4⟩
      · rw [h2, h1, c1]
        show T2.heap[H.size]? = some (vp_cell _ _)
        rw [f3]
        rw [ar, vp_cell_q]
        exact congrArg some (arrV_cg (fun j hj => by rw [if_pos hj]; show _ = Value.ref (ad1 (rb + j)); rw [a2 (rb + j) (by omega) (by omega), show rb + j - rb = j by omega]))
      · rw [h2, c2 r h1.1 h1.2]
        show T2.heap[_]? = some (vp_cell _ _)
        rw [ai, vp_cell_i, fi (r - rb) (by omega)]
      · rw [h3, c3 r h2]
        exact (hG r h1).1.kept (fo _ h4)
    · rcases key r hr with ⟨h1, h2⟩ | ⟨h1, h2⟩ | ⟨h1, h2, h3, h4⟩
      · rw [h2]; exact hA _ hS.1
      · rw [h2]; exact hA _ (Nat.le_trans hS.1 (by omega))
      · rw [h3]; exact (hG r h1).2.1
    · have k1 := key r hr
      have k2 := key q hq
      rcases k1 with ⟨h1, h2⟩ | ⟨h1, h2⟩ | ⟨h1, h2, h3, h4⟩
      · rcases k2 with ⟨g1, g2⟩ | ⟨g1, g2⟩ | ⟨g1, g2, g3, g4⟩
        · rw [g1, h1]
        · exfalso; clear hr hq hne; omega
        · exfalso; clear hr hq hne g2; omega
      · rcases k2 with ⟨g1, g2⟩ | ⟨g1, g2⟩ | ⟨g1, g2, g3, g4⟩
        · exfalso; omega
        · omega
        · exfalso; clear hr hq hne g2; omega
      · rcases k2 with ⟨g1, g2⟩ | ⟨g1, g2⟩ | ⟨g1, g2, g3, g4⟩
        · exfalso; clear hr hq hne h2; omega
        · exfalso; clear hr hq hne h2; omega
        · exact (hG r h1).2.2 q g1 (by rw [← g3, ← h3]; exact he)
  obtain ⟨t2, b1, b2⟩ := kk H.size ad1 C1 T2.heap locs2 a1 c1 c2 (fun q h => ⟨a3 q h, c3 q h⟩) hG1 ⟨Nat.le_trans hS.1 (by rw [f1]; omega), fun x h1 h2 => (fo x (Nat.lt_of_lt_of_le h1 hS.1)).trans (hS.2.1 x h1 h2), fun x hx => by
    rcases hlo2 x hx with g | g
    · exact hS.2.2 x g
    · rw [g]; exact hA _ hS.1⟩ T2 rfl (by rw [← Nat.add_assoc, ← Nat.add_assoc]; exact X2)
  exact ⟨t2, step t2 b1, b2⟩
end AL84
