/-! ROWS for the constructors: arrays of longs; the Model half made -/
set_option maxRecDepth 100000
section AL85
variable {p : Program} {l : Launch} {e : Env} {R : Room} {s : State} {m : MethodId} {args : Array Value} {below : List Frame} {meth : Method} {c : Code} {H : Heap} {locs : List Loc} {cells slots : Nat} {Q : State → Prop}
variable {cc : ByteArray} {pc index : Nat} {ls : Array Slot} {rest st0 : List Value} {D : va_G} {E : Nat → ClassId} {A V : Nat → Prop} {ad : Nat → Nat} {C : Nat → va_E} {H0 : Heap} {own : String} {adK adV st : Nat → Nat}
theorem a_newaL (hC : CK p m c cc s args own D E) (hG : GW D A V ad C H) (hS : va_S A s.heap H locs) (hA : ∀ q, s.heap.size ≤ q → A q) (r : Nat) {zn : Int} {N : Nat} (hz : zn = N) (hN : N * componentBytes .long ≤ 536870912) (hN2 : N < 2147483648) (hcells : cells + 1 ≤ R.cells) (hslots : slots + N ≤ R.slots) (hdg : decode cc pc = .ok (.newarray .long, 2))
    (kk : ∀ (x : Nat) (ad1 : Nat → Nat) (C1 : Nat → va_E) (H1 : Heap), ad1 r = x → C1 r = .inl (E 3, N, .inr (.inl fun _ => iL 0)) → (∀ q, q ≠ r → ad1 q = ad q ∧ C1 q = C q) → GW D A (fun q => V q ∨ q = r) ad1 C1 H1 → va_S A s.heap H1 locs → (∀ q, q < H.size → H1[q]? = H[q]?) → W p l e R s m args below meth c H1 locs (cells + 1) (slots + N) Q (F0 m (pc + 2) ls (.ref x :: rest))) : W p l e R s m args below meth c H locs cells slots Q (F0 m pc ls (.int (iI zn) :: rest)) := by
  obtain ⟨hx, hb, hown, hts, hK⟩ := hC
  subst hz
  have hin := iI_cl (z := (N : Int)) ⟨by omega, by omega⟩
  refine va_newaK hx hb (show (Cond.arrayClass (newarray.typeOf .long)).before args s = true from hts _ q1252) rfl hdg rfl (iI_nn (by omega) (by omega)) (hin.trans (Int.toNat_natCast N)) hN hcells hslots rfl fun H1 cA e1 z1 o1 hAr hNm => ?_
  have hcA : cA = E 3 := by
    have h := (hK.2 3 _ rfl).2
    exact Option.some.inj (hNm.symm.trans h)
  subst hcA
  refine kk H.size (va_up ad r H.size) (va_up C r (.inl (E 3, N, .inr (.inl fun _ => iL 0)))) H1 (by simp [va_up]) (by simp [va_up]) (fun q hq => ⟨by simp [va_up, hq], by simp [va_up, hq]⟩) (hG.new (fun q hq hne => hq.resolve_right hne) (fun q hq => hG.lt hq) (hA _ hS.1) ?_ o1 (fun q _ hq => by simp [va_up, hq])) ⟨Nat.le_trans hS.1 (by omega), fun x h1 h2 => (o1 x (Nat.lt_of_lt_of_le h1 hS.1)).trans (hS.2.1 x h1 h2), hS.2.2⟩ o1
  rw [show va_up C r (.inl (E 3, N, .inr (.inl fun _ => iL 0))) r = .inl (E 3, N, .inr (.inl fun _ => iL 0)) by simp [va_up]]
  show H1[H.size]? = some (vp_cell _ _)
  rw [e1]
  rfl
/-! the Model half made: fields below n have been set -/
def mI0 (k : Nat) : Int := if k = 22 then 1000 else if k = 23 then 1 else if k = 24 then 4 else if k = 44 then 16 else 0
def mF0 (k : Nat) : Int → Int := if k = 0 then updZ (updZ (updZ (updZ (updZ (updZ (updZ (updZ (updZ (updZ (updZ (updZ (updZ (updZ (updZ (updZ (fun _ => 0) 0 0) 1 383) 2 707) 3 924) 4 1000) 5 924) 6 707) 7 383) 8 0) 9 (-383)) 10 (-707)) 11 (-924)) 12 (-1000)) 13 (-924)) 14 (-707)) 15 (-383) else if k = 60 ∨ k = 64 then updZ (updZ (fun _ => 0) 0 (-1)) 1 (-1) else fun _ => 0
def qval (ad : Nat → Nat) (n k : Nat) : Value := if k < n then mval (fun j => ad (j + 1)) mI0 k else if mty k = 4 then .int (iI 0) else if mty k = 5 then .long (iL 0) else .null
def qfs (ad : Nat → Nat) (n : Nat) : List Value := (List.range 75).map (qval ad n)
def qV (n q : Nat) : Prop := q = 0 ∨ (1 ≤ q ∧ q ≤ n ∧ mty (q - 1) < 4)
def qC (E : Nat → ClassId) (ad : Nat → Nat) (n q : Nat) : va_E := if q = 0 then .inr (2, qfs ad n) else .inl (E (mty (q - 1)), mlen (q - 1), mcont mF0 (q - 1))
theorem qfs_len (ad : Nat → Nat) (n : Nat) : (qfs ad n).length = 75 := by simp [qfs]
theorem qfs_get (ad : Nat → Nat) (n : Nat) {k : Nat} (hk : k < 75) : (qfs ad n)[k]? = some (qval ad n k) := by simp [qfs, hk]
theorem qfs_set {ad ad1 : Nat → Nat} {n : Nat} (hn : n < 75) {w : Value} (hw : w = mval (fun j => ad1 (j + 1)) mI0 n) (h : ∀ q, q ≠ n + 1 → ad1 q = ad q) : (qfs ad n).set n w = qfs ad1 (n + 1) := by
  apply List.ext_getElem?
  intro j
  by_cases hj : j < 75
  · rw [qfs_get ad1 _ hj]
    by_cases hjn : j = n
    · subst hjn
      rw [List.getElem?_set_self (by rw [qfs_len]; exact hj), hw]
      unfold qval
      rw [if_pos (by omega)]
    · rw [List.getElem?_set_ne (Ne.symm hjn), qfs_get ad n hj]
      congr 1
      unfold qval
      by_cases c : j < n
      · rw [if_pos c, if_pos (by omega)]
        unfold mval
        simp only [h (j + 1) (by omega)]
      · rw [if_neg c, if_neg (show ¬ j < n + 1 by omega)]
  · rw [List.getElem?_eq_none (by rw [List.length_set, qfs_len]; omega), List.getElem?_eq_none (by rw [qfs_len]; omega)]
/-- a field with no initial value: nothing is to be done -/
theorem q_skip {n : Nat} (hn : n < 75) (h4 : (mty n == 4 && mI0 n == 0) || (mty n == 5 && mI0 n == 0)) (hG : GW D A (qV n) ad (qC E ad n) H) : GW D A (qV (n + 1)) ad (qC E ad (n + 1)) H := by
  have e : qfs ad n = qfs ad (n + 1) := by
    unfold qfs
    refine List.map_congr_left (fun k hk => ?_)
    unfold qval
    by_cases c : k < n
    · rw [if_pos c, if_pos (by omega)]
    · rw [if_neg c]
      by_cases c2 : k = n
      · subst c2
        rw [if_pos (show k < k + 1 by omega)]
        unfold mval
        simp only [Bool.or_eq_true, Bool.and_eq_true, beq_iff_eq] at h4
        rcases h4 with ⟨h, h0⟩ | ⟨h, h0⟩
        · rw [if_pos h, if_pos h, h0]
        · have h5 : ¬ mty k = 4 := by omega
          rw [if_neg h5, if_pos h, if_neg h5, if_pos h, h0]
      · rw [if_neg (show ¬ k < n + 1 by omega)]
  have hm : ¬ mty n < 4 := by
    simp only [Bool.or_eq_true, Bool.and_eq_true, beq_iff_eq] at h4
    omega
  refine hG.cg (fun r hr => ?_) (fun r hr => ?_)
  · rcases hr with h | ⟨h1, h2, h3⟩
    · exact Or.inl h
    · refine Or.inr ⟨h1, ?_, h3⟩
      by_cases c : r = n + 1
      · subst c; exact absurd h3 hm
      · omega
  · unfold qC
    rw [e]
theorem q_int {n : Nat} (hn : n < 75) (hC : CK p m c cc s args RX2 D E) (hG : GW D A (qV n) ad (qC E ad n) H) (hS : va_S A s.heap H locs) (h4 : mty n = 4) (hl : Cond.fieldLink RX2 index RX2 (TX2 n).2.1 (TX2 n).2.2.1 ∈ lw_all) (hT : (TX2 n).1 = RX2) (hfin : (TX2 n).2.2.2 = false) (hty : tyX2 n = .int) {z : Int} (hz : z = mI0 n) {a : Nat} (ea : ad 0 = a) (hdg : decode cc pc = .ok (.putfield index, 3))
    (kk : ∀ (H1 : Heap) (locs1 : List Loc), GW D A (qV (n + 1)) ad (qC E ad (n + 1)) H1 → va_S A s.heap H1 locs1 → W p l e R s m args below meth c H1 locs1 cells slots Q (F0 m (pc + 3) ls rest)) : W p l e R s m args below meth c H locs cells slots Q (F0 m pc ls (.int (iI z) :: .ref a :: rest)) := by
  refine a_put (tyf := tyX2) hC hG hS 0 ea (Or.inl rfl) (show qC E ad n 0 = .inr (2, qfs ad n) from rfl) (ci := 2) rfl in_X2 tyX2_ok nmX2 n hn hl hT hfin (by rw [hty]; rfl) (by rw [hty]; rfl) (by rw [qfs_len]; exact hn) hdg (fun C1 H1 locs1 k1 o1 hG1 hS1 => kk H1 locs1 ?_ hS1)
  refine hG1.cg (fun r hr => ?_) (fun r hr => ?_)
  · rcases hr with h | ⟨h1, h2, h3⟩
    · exact Or.inl h
    · refine Or.inr ⟨h1, ?_, h3⟩
      by_cases c : r = n + 1
      · subst c
        rw [show n + 1 - 1 = n by omega, h4] at h3
        omega
      · omega
  · by_cases c : r = 0
    · subst c
      rw [k1, qfs_set (ad1 := ad) hn (by unfold mval; rw [if_pos h4, hz]) (fun _ _ => rfl)]
      rfl
    · rw [o1 r c]
      unfold qC
      rw [if_neg c, if_neg c]
/-- an array, made and filled, is put into its field -/
theorem q_put {n : Nat} (hn : n < 75) (hC : CK p m c cc s args RX2 D E) (hnm1 : meth.name = "<init>") {ad1 : Nat → Nat} {C1 : Nat → va_E} {V1 : Nat → Prop} (hV : V1 = fun q => qV n q ∨ q = n + 1) (hG : GW D A V1 ad1 C1 H) (hS : va_S A s.heap H locs) (h4 : mty n < 4) (hl : Cond.fieldLink RX2 index RX2 (TX2 n).2.1 (TX2 n).2.2.1 ∈ lw_all) (hT : (TX2 n).1 = RX2) (hfin : (TX2 n).2.2.2 = true) (hnar : ∀ y, narrow (tyX2 n) (.ref y) = .ref y) (hfit : ∀ y, fits (tyX2 n) (.ref y) = true) (hk : C1 (n + 1) = .inl (E (mty n), mlen n, mcont mF0 n)) (hoC : ∀ q, q ≠ n + 1 → C1 q = qC E ad n q) (hoa : ∀ q, q ≠ n + 1 → ad1 q = ad q) {x : Nat} (ex : ad1 (n + 1) = x) {a : Nat} (ea : ad 0 = a) (hdg : decode cc pc = .ok (.putfield index, 3))
    (kk : ∀ (H1 : Heap) (locs1 : List Loc), ad1 0 = a → GW D A (qV (n + 1)) ad1 (qC E ad1 (n + 1)) H1 → va_S A s.heap H1 locs1 → W p l e R s m args below meth c H1 locs1 cells slots Q (F0 m (pc + 3) ls rest)) : W p l e R s m args below meth c H locs cells slots Q (F0 m pc ls (.ref x :: .ref a :: rest)) := by
  have ea1 : ad1 0 = a := (hoa 0 (by omega)).trans ea
  subst hV
  subst ex
  refine a_putF (tyf := tyX2) hC hnm1 hG hS 0 ea1 (Or.inl (Or.inl rfl)) ((hoC 0 (by omega)).trans (show qC E ad n 0 = .inr (2, qfs ad n) from rfl)) (ci := 2) rfl in_X2 tyX2_ok nmX2 n hn hl hT hfin (hnar _) (hfit _) (by rw [qfs_len]; exact hn) hdg (fun C2 H1 locs1 k1 o1 hG1 hS1 => kk H1 locs1 ea1 ?_ hS1)
  refine hG1.cg (fun r hr => ?_) (fun r hr => ?_)
  · rcases hr with h | ⟨h1, h2, h3⟩
    · exact Or.inl (Or.inl h)
    · by_cases c : r = n + 1
      · exact Or.inr c
      · exact Or.inl (Or.inr ⟨h1, by omega, h3⟩)
  · by_cases c : r = 0
    · subst c
      rw [k1, qfs_set (ad1 := ad1) hn (by unfold mval; rw [if_neg (by omega), if_neg (by omega)]) hoa]
      rfl
    · rw [o1 r c]
      by_cases c2 : r = n + 1
      · subst c2
        rw [hk]
        unfold qC
        rw [if_neg c, show n + 1 - 1 = n by omega]
      · rw [hoC r c2]
        unfold qC
        rw [if_neg c, if_neg c]
theorem q_arr {n : Nat} (N : Nat) (hNl : mlen n = N) (hn : n < 75) (hC : CK p m c cc s args RX2 D E) (hnm1 : meth.name = "<init>") (hA : ∀ q, s.heap.size ≤ q → A q) (hG : GW D A (qV n) ad (qC E ad n) H) (hS : va_S A s.heap H locs) {atype : ArrayType} {ty : FieldType} (harr : Cond.arrayClass ty ∈ lw_all) (hty : newarray.typeOf atype = ty) (ht : (tyAll E)[mty n]? = some (E (mty n), ty)) (hnm : va_RA s (E (mty n)) ty = (s.vm.findClass ("[" ++ ty.toString) = some (E (mty n)))) (hdv : defaultValue ty = .int (iI 0)) (hN : N * componentBytes ty ≤ 536870912) (hcells : cells + 1 ≤ R.cells) (hslots : slots + N ≤ R.slots) (hdg1 : decode cc pc = .ok (.newarray atype, 2)) (h4 : mty n < 3) (hF : mF0 n = fun _ => 0) (hl : Cond.fieldLink RX2 index RX2 (TX2 n).2.1 (TX2 n).2.2.1 ∈ lw_all) (hT : (TX2 n).1 = RX2) (hfin : (TX2 n).2.2.2 = true) (hnar : ∀ y, narrow (tyX2 n) (.ref y) = .ref y) (hfit : ∀ y, fits (tyX2 n) (.ref y) = true) {zn : Int} (hz : zn = N) {a : Nat} (ea : ad 0 = a) (hdg : decode cc (pc + 2) = .ok (.putfield index, 3))
    (kk : ∀ (ad1 : Nat → Nat) (H1 : Heap) (locs1 : List Loc), ad1 0 = a → GW D A (qV (n + 1)) ad1 (qC E ad1 (n + 1)) H1 → va_S A s.heap H1 locs1 → W p l e R s m args below meth c H1 locs1 (cells + 1) (slots + N) Q (F0 m (pc + 2 + 3) ls rest)) : W p l e R s m args below meth c H locs cells slots Q (F0 m pc ls (.int (iI zn) :: .ref a :: rest)) := by
  subst hNl
  refine a_newa (t := mty n) (N := mlen n) hC hG hS hA (n + 1) harr hty ht hnm hdv hz hN (mlen_lt n) hcells hslots hdg1 (fun x ad1 C1 H1 e1 k1 o1 hG1 hS1 oh => ?_)
  exact q_put hn hC hnm1 rfl hG1 hS1 (by omega) hl hT hfin hnar hfit (by rw [k1]; unfold mcont; rw [if_neg (by omega), hF]; rfl) (fun q hq => (o1 q hq).2) (fun q hq => (o1 q hq).1) e1 ea hdg (fun H2 locs2 => kk ad1 H2 locs2)
/-- the Model made -/
theorem q_MW (hG : GW D A (qV 75) ad (qC E ad 75) H) : MW D E A (ad 0) (fun k => ad (k + 1)) mI0 mF0 H := by
  have h0 := hG 0 (Or.inl rfl)
  have e : qfs ad 75 = mfs (fun k => ad (k + 1)) mI0 := by
    unfold qfs mfs
    refine List.map_congr_left (fun k hk => ?_)
    unfold qval
    rw [if_pos (by simpa using hk)]
  refine ⟨?_, h0.2.1, fun k hk h4 => ?_⟩
  · have g := h0.1
    rw [show qC E ad 75 0 = .inr (2, qfs ad 75) from rfl, e] at g
    exact g
  · have hv : ∀ k, k < 75 → mty k < 4 → qV 75 (k + 1) := fun k hk h4 => Or.inr ⟨by omega, by omega, by rw [show k + 1 - 1 = k by omega]; exact h4⟩
    have g := hG (k + 1) (hv k hk h4)
    refine ⟨?_, g.2.1, fun q => ?_, fun j hj hj4 q => ?_⟩
    · have g1 := g.1
      rw [show qC E ad 75 (k + 1) = .inl (E (mty k), mlen k, mcont mF0 k) by unfold qC; rw [if_neg (by omega), show k + 1 - 1 = k by omega]] at g1
      exact g1
    · have := g.2.2 0 (Or.inl rfl) q.symm
      omega
    · have := g.2.2 (j + 1) (hv j hj hj4) q
      omega
end AL85
