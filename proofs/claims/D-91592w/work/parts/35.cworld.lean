/-! THE COMPONENT's WORLD: cells by roles -/
set_option maxRecDepth 100000
/-- every valid role's cell, in A, apart -/
def GW (D : va_G) (A : Nat → Prop) (V : Nat → Prop) (ad : Nat → Nat) (C : Nat → va_E) (H : Heap) : Prop := ∀ r, V r → va_at D clAll (ad r, C r) H ∧ A (ad r) ∧ ∀ q, V q → ad q = ad r → q = r
theorem GW.kept {D : va_G} {A V : Nat → Prop} {ad : Nat → Nat} {C : Nat → va_E} {H H1 : Heap} (h : GW D A V ad C H) (hk : ∀ q, A q → H1[q]? = H[q]?) : GW D A V ad C H1 := fun r hr => ⟨(h r hr).1.kept (hk _ (h r hr).2.1), (h r hr).2⟩
theorem GW.cg {D : va_G} {A V V1 : Nat → Prop} {ad : Nat → Nat} {C C1 : Nat → va_E} {H : Heap} (h : GW D A V ad C H) (hv : ∀ r, V1 r → V r) (hc : ∀ r, V1 r → C1 r = C r) : GW D A V1 ad C1 H := fun r hr => ⟨by rw [hc r hr]; exact (h r (hv r hr)).1, (h r (hv r hr)).2.1, fun q hq e => (h r (hv r hr)).2.2 q (hv q hq) e⟩
theorem GW.set {D : va_G} {A V : Nat → Prop} {ad : Nat → Nat} {C C1 : Nat → va_E} {H H1 : Heap} (h : GW D A V ad C H) {r : Nat} (hr : V r) (he : va_at D clAll (ad r, C1 r) H1) (oq : ∀ q : Nat, q ≠ ad r → H1[q]? = H[q]?) (hc : ∀ q, V q → q ≠ r → C1 q = C q) : GW D A V ad C1 H1 := by
  intro q hq
  by_cases c : q = r
  · subst c
    exact ⟨he, (h q hq).2⟩
  · refine ⟨?_, (h q hq).2⟩
    rw [hc q hq c]
    exact (h q hq).1.kept (oq _ (fun e => c ((h r hr).2.2 q hq e)))
/-- a new cell under a new role -/
theorem GW.new {D : va_G} {A V V1 : Nat → Prop} {ad : Nat → Nat} {C C1 : Nat → va_E} {H H1 : Heap} (h : GW D A V ad C H) {r a : Nat} (hv : ∀ q, V1 q → q ≠ r → V q) (ha : ∀ q, V q → ad q < a) (hA : A a) (he : va_at D clAll (a, C1 r) H1) (oq : ∀ q : Nat, q < a → H1[q]? = H[q]?) (hc : ∀ q, V q → q ≠ r → C1 q = C q) : GW D A V1 (va_up ad r a) C1 H1 := by
  intro q hq
  by_cases c : q = r
  · subst c
    have e : va_up ad q a q = a := by simp [va_up]
    rw [e]
    refine ⟨he, hA, fun z hz ez => ?_⟩
    by_cases cz : z = q
    · exact cz
    · have : va_up ad q a z = ad z := by simp [va_up, cz]
      rw [this] at ez
      have := ha z (hv z hz cz)
      omega
  · have e : va_up ad r a q = ad q := by simp [va_up, c]
    have hq' := hv q hq c
    rw [e, hc q hq' c]
    refine ⟨(h q hq').1.kept (oq _ (ha q hq')), (h q hq').2.1, fun z hz ez => ?_⟩
    by_cases cz : z = r
    · subst cz
      have e2 : va_up ad z a z = a := by simp [va_up]
      rw [e2] at ez
      have := ha q hq'
      omega
    · have : va_up ad r a z = ad z := by simp [va_up, cz]
      rw [this] at ez
      exact (h q hq').2.2 z (hv z hz cz) ez
/-- ints of an array -/
def ai (f : Int → Int) : vcont := .inl (fun j => iI (f j))
def ar (f : Nat → Option Nat) : vcont := .inr (.inr (.inr (.inr f)))
def sgO (d : Int) : Int := if d = 2 then 43 else if d = 3 then 45 else if d = 4 then 42 else if d = 5 then 47 else if d = 6 then 60 else if d = 7 then 62 else if d = 8 then 61 else if d = 9 then 38 else if d = 10 then 124 else 33
/-- a mark's cell -/
def mkE (d w : Int) : va_E := if d = 0 then .inr (9, [.int (iI w), .int (iI 0)]) else if d = 1 then .inr (9, [.int (iI w), .int (iI 1)]) else .inr (7, [.int (iI (sgO d))])
/-- list sizes by the list's role -/
def lsI (r : Nat) : Nat := if r = 11 then 1 else if r = 12 then 4 else if r = 13 then 10 else 18
def lsB (r : Nat) : Nat := if r = 11 then 3000 else if r = 12 then 3200 else if r = 13 then 3300 else 3400
def c0v (ad : Nat → Nat) (I : Nat → Int) (S : Nat → Nat → Int) : List Value := [.ref (ad 1), .int (iI (I 48)), (if S 0 2 = 0 then .null else .ref (ad 30)), .ref (ad 2), .ref (ad 3), .ref (ad 11), .ref (ad 12), .ref (ad 13), .ref (ad 14), .ref (ad 4), .ref (ad 5), .int (iI (I 15)), .int (iI (I 22)), .int (iI (I 23)), .int (iI (I 24)), .int (iI (I 25)), .ref (ad 19), .ref (ad 20), .ref (ad 9), .ref (ad 6), .ref (ad 7), .ref (ad 10), .int (iI (I 41)), .int (iI (I 44)), .ref (ad 8), .int (iI (I 45))]
def c1v (ad : Nat → Nat) (S : Nat → Nat → Int) (r : Nat) : List Value := [.ref (ad (21 + 4 * (r - 19))), .ref (ad (22 + 4 * (r - 19))), .ref (ad (23 + 4 * (r - 19))), .ref (ad (24 + 4 * (r - 19))), .int (iI (S r 4)), .int (iI (S r 5)), .int (iI (S r 6)), .int (iI (S r 7)), .int (iI (S r 8)), .int (iI (S r 9)), .int (iI (S r 10)), .int (iI (S r 11)), .int (iI (S r 12)), .ref (ad 0)]
/-- int arrays by role: kind of component (0 int, 1 byte, 2 boolean), length -/
def aK (r : Nat) : Nat × Nat := if r = 1 then (1, 300) else if r = 2 then (0, 48) else if r = 3 then (0, 7) else if r = 4 ∨ r = 5 then (0, 6) else if r = 6 ∨ r = 7 then (0, 12) else if r = 8 then (0, 64) else if r = 21 ∨ r = 25 then (0, 12) else if r = 22 ∨ r = 26 then (0, 4) else if r = 23 ∨ r = 27 then (0, 6) else if r = 24 ∨ r = 28 then (2, 6) else if 1000 ≤ r ∧ r < 1600 then (0, 5) else if 2000 ≤ r ∧ r < 2013 then (0, 37) else (0, 10)
/-- their contents -/
def aY (F : Nat → Int → Int) (Y : Nat → Int → Int) (r : Nat) : Int → Int := if r = 1 then F 47 else if r = 4 then F 16 else if r = 5 then F 17 else if r = 6 then F 42 else if r = 7 then F 43 else if r = 8 then F 46 else if 3100 ≤ r ∧ r < 3200 then (fun j => F 3 (10 * ((r - 3100 : Nat) : Int) + j)) else Y r
def isA (r : Nat) : Prop := (1 ≤ r ∧ r ≤ 8) ∨ (21 ≤ r ∧ r ≤ 28) ∨ (1000 ≤ r ∧ r < 1600) ∨ (2000 ≤ r ∧ r < 2013) ∨ (3100 ≤ r ∧ r < 3200)
/-- a role's content: I, F as the Model's; S private ints, Y private arrays, L capacities -/
def cC (E : Nat → ClassId) (ad : Nat → Nat) (I : Nat → Int) (F : Nat → Int → Int) (S : Nat → Nat → Int) (Y : Nat → Int → Int) (L : Nat → Nat) (r : Nat) : va_E :=
  if r = 0 then .inr (0, c0v ad I S)
  else if (1 ≤ r ∧ r ≤ 8) ∨ (21 ≤ r ∧ r ≤ 28) ∨ (1000 ≤ r ∧ r < 1600) ∨ (2000 ≤ r ∧ r < 2013) ∨ (3100 ≤ r ∧ r < 3200) then .inl (E (aK r).1, (aK r).2, ai (aY F Y r))
  else if r = 9 then .inl (E 4, 600, ar (fun j => some (ad (1000 + j))))
  else if r = 10 then .inl (E 4, 13, ar (fun j => some (ad (2000 + j))))
  else if 11 ≤ r ∧ r ≤ 14 then .inr (10, [.int (iI (S r 0)), .ref (ad (r + 4)), .int (iI (I (lsI r)))])
  else if 15 ≤ r ∧ r ≤ 18 then .inl (E 5, L r, ar (fun j => if (j : Int) < I (lsI (r - 4)) then some (ad (lsB (r - 4) + j)) else none))
  else if r = 19 ∨ r = 20 then .inr (1, c1v ad S r)
  else if 3000 ≤ r ∧ r < 3100 then .inr (3, [.int (iI (F 2 ((r - 3000 : Nat) : Int))), .ref (ad (r + 100))])
  else if 3200 ≤ r ∧ r < 3300 then .inr (4, [.int (iI (F 5 ((r - 3200 : Nat) : Int))), .int (iI (F 6 ((r - 3200 : Nat) : Int))), .int (iI (F 7 ((r - 3200 : Nat) : Int))), .int (iI (F 8 ((r - 3200 : Nat) : Int))), .int (iI (F 9 ((r - 3200 : Nat) : Int)))])
  else if 3300 ≤ r ∧ r < 3400 then .inr (5, [.int (iI (F 11 ((r - 3300 : Nat) : Int))), .int (iI (F 12 ((r - 3300 : Nat) : Int))), .int (iI (F 13 ((r - 3300 : Nat) : Int))), .int (iI (F 14 ((r - 3300 : Nat) : Int)))])
  else if 3400 ≤ r ∧ r < 3500 then .inr (6, [.int (iI (F 19 ((r - 3400 : Nat) : Int))), .int (iI (F 20 ((r - 3400 : Nat) : Int))), .int (iI (F 21 ((r - 3400 : Nat) : Int)))])
  else if r = 30 then .inl (E 7, 2, ar (fun j => if F 64 j = -1 then none else some (ad (31 + j))))
  else if r = 31 ∨ r = 32 then .inl (E 6, (F 65 ((r - 31 : Nat) : Int) - F 64 ((r - 31 : Nat) : Int)).toNat, ar (fun j => some (ad (4000 + 1000 * (r - 31) + j))))
  else if r < 5000 then mkE (F 62 (F 64 0 + ((r - 4000 : Nat) : Int))) (F 63 (F 64 0 + ((r - 4000 : Nat) : Int)))
  else mkE (F 62 (F 64 1 + ((r - 5000 : Nat) : Int))) (F 63 (F 64 1 + ((r - 5000 : Nat) : Int)))
/-- which roles there are: nv 0 slices, 1 weights, 2 tanks, 3 waves -/
def cV (nv : Nat → Nat) (F : Nat → Int → Int) (S : Nat → Nat → Int) (r : Nat) : Prop := r ≤ 28 ∨ (1000 ≤ r ∧ r < 1600) ∨ (2000 ≤ r ∧ r < 2013) ∨ (3000 ≤ r ∧ r < 3000 + nv 0 ∧ r < 3100) ∨ (3100 ≤ r ∧ r < 3100 + nv 0 ∧ r < 3200) ∨ (3200 ≤ r ∧ r < 3200 + nv 1 ∧ r < 3300) ∨ (3300 ≤ r ∧ r < 3300 + nv 2 ∧ r < 3400) ∨ (3400 ≤ r ∧ r < 3400 + nv 3 ∧ r < 3500) ∨ (S 0 2 ≠ 0 ∧ (r = 30 ∨ (r = 31 ∧ F 64 0 ≠ -1) ∨ (r = 32 ∧ F 64 1 ≠ -1) ∨ (4000 ≤ r ∧ F 64 0 ≠ -1 ∧ ((r - 4000 : Nat) : Int) < F 65 0 - F 64 0 ∧ r < 5000) ∨ (5000 ≤ r ∧ F 64 1 ≠ -1 ∧ ((r - 5000 : Nat) : Int) < F 65 1 - F 64 1 ∧ r < 6000)))
/-- the component's world -/
def CW (D : va_G) (E : Nat → ClassId) (A : Nat → Prop) (ad nv : Nat → Nat) (I : Nat → Int) (F : Nat → Int → Int) (S : Nat → Nat → Int) (Y : Nat → Int → Int) (L : Nat → Nat) (H : Heap) : Prop := GW D A (cV nv F S) ad (cC E ad I F S Y L) H
section CC
variable {E : Nat → ClassId} {ad : Nat → Nat} {I : Nat → Int} {F : Nat → Int → Int} {S : Nat → Nat → Int} {Y : Nat → Int → Int} {L : Nat → Nat}
theorem cC_0 : cC E ad I F S Y L 0 = .inr (0, c0v ad I S) := rfl
theorem cC_a {r : Nat} (h : (1 ≤ r ∧ r ≤ 8) ∨ (21 ≤ r ∧ r ≤ 28) ∨ (1000 ≤ r ∧ r < 1600) ∨ (2000 ≤ r ∧ r < 2013) ∨ (3100 ≤ r ∧ r < 3200)) : cC E ad I F S Y L r = .inl (E (aK r).1, (aK r).2, ai (aY F Y r)) := by
  unfold cC
  rw [if_neg (by omega), if_pos h]
theorem cC_9 : cC E ad I F S Y L 9 = .inl (E 4, 600, ar (fun j => some (ad (1000 + j)))) := rfl
theorem cC_10 : cC E ad I F S Y L 10 = .inl (E 4, 13, ar (fun j => some (ad (2000 + j)))) := rfl
theorem cC_l {r : Nat} (h : 11 ≤ r ∧ r ≤ 14) : cC E ad I F S Y L r = .inr (10, [.int (iI (S r 0)), .ref (ad (r + 4)), .int (iI (I (lsI r)))]) := by
  unfold cC
  rw [if_neg (by omega), if_neg (by omega), if_neg (by omega), if_neg (by omega), if_pos h]
theorem cC_e {r : Nat} (h : 15 ≤ r ∧ r ≤ 18) : cC E ad I F S Y L r = .inl (E 5, L r, ar (fun j => if (j : Int) < I (lsI (r - 4)) then some (ad (lsB (r - 4) + j)) else none)) := by
  unfold cC
  rw [if_neg (by omega), if_neg (by omega), if_neg (by omega), if_neg (by omega), if_neg (by omega), if_pos h]
theorem cC_s {r : Nat} (h : r = 19 ∨ r = 20) : cC E ad I F S Y L r = .inr (1, c1v ad S r) := by
  unfold cC
  rw [if_neg (by omega), if_neg (by omega), if_neg (by omega), if_neg (by omega), if_neg (by omega), if_neg (by omega), if_pos h]
theorem cC_sl {k : Nat} (h : k < 100) : cC E ad I F S Y L (3000 + k) = .inr (3, [.int (iI (F 2 k)), .ref (ad (3100 + k))]) := by
  unfold cC
  rw [if_neg (by omega), if_neg (by omega), if_neg (by omega), if_neg (by omega), if_neg (by omega), if_neg (by omega), if_neg (by omega), if_pos (by omega), show 3000 + k - 3000 = k by omega, show 3000 + k + 100 = 3100 + k by omega]
theorem cC_wt {k : Nat} (h : k < 100) : cC E ad I F S Y L (3200 + k) = .inr (4, [.int (iI (F 5 k)), .int (iI (F 6 k)), .int (iI (F 7 k)), .int (iI (F 8 k)), .int (iI (F 9 k))]) := by
  unfold cC
  rw [if_neg (by omega), if_neg (by omega), if_neg (by omega), if_neg (by omega), if_neg (by omega), if_neg (by omega), if_neg (by omega), if_neg (by omega), if_pos (by omega), show 3200 + k - 3200 = k by omega]
theorem cC_tk {k : Nat} (h : k < 100) : cC E ad I F S Y L (3300 + k) = .inr (5, [.int (iI (F 11 k)), .int (iI (F 12 k)), .int (iI (F 13 k)), .int (iI (F 14 k))]) := by
  unfold cC
  rw [if_neg (by omega), if_neg (by omega), if_neg (by omega), if_neg (by omega), if_neg (by omega), if_neg (by omega), if_neg (by omega), if_neg (by omega), if_neg (by omega), if_pos (by omega), show 3300 + k - 3300 = k by omega]
theorem cC_wv {k : Nat} (h : k < 100) : cC E ad I F S Y L (3400 + k) = .inr (6, [.int (iI (F 19 k)), .int (iI (F 20 k)), .int (iI (F 21 k))]) := by
  unfold cC
  rw [if_neg (by omega), if_neg (by omega), if_neg (by omega), if_neg (by omega), if_neg (by omega), if_neg (by omega), if_neg (by omega), if_neg (by omega), if_neg (by omega), if_neg (by omega), if_pos (by omega), show 3400 + k - 3400 = k by omega]
end CC
/-- what a method of the component stands on -/
def CK (p : Program) (m : MethodId) (c : Code) (cc : ByteArray) (s : State) (args : Array Value) (own : String) (D : va_G) (E : Nat → ClassId) : Prop := p.tables.exec = Jvm.exec ∧ c.code = cc ∧ s.vm.findClass own = some m.cls ∧ (∀ w ∈ lw_all, w.before args s = true) ∧ va_K D clAll (tyAll E) s
section CR
variable {p : Program} {l : Launch} {e : Env} {R : Room} {s : State} {m : MethodId} {args : Array Value} {below : List Frame} {meth : Method} {c : Code} {H : Heap} {locs : List Loc} {cells slots : Nat} {Q : State → Prop}
variable {cc : ByteArray} {pc : Nat} {ls : Array Slot} {rest : List Value} {D : va_G} {E : Nat → ClassId} {A V : Nat → Prop} {ad : Nat → Nat} {C : Nat → va_E} {H0 : Heap} {own : String}
/-- a field, by role -/
theorem g_get {cC0 : String} {T : u_T} {N ci index : Nat} (hC : CK p m c cc s args own D E) (hG : GW D A V ad C H) (r : Nat) (hV : V r) {fs : List Value} (he : C r = .inr (ci, fs)) (hc : clAll[ci]? = some (cC0, T, N)) (hin : ∀ w ∈ u_ws cC0 T N, w ∈ lw_all) (k : Nat) (hk : k < N) (hl : Cond.fieldLink own index cC0 (T k).2.1 (T k).2.2.1 ∈ lw_all) (hT : (T k).1 = cC0) {v : Value} (hv : fs[k]? = some v) (hdg : decode cc pc = .ok (.getfield index, 3))
    (kk : W p l e R s m args below meth c H locs cells slots Q (F0 m (pc + 3) ls (v :: rest))) : W p l e R s m args below meth c H locs cells slots Q (F0 m pc ls (.ref (ad r) :: rest)) :=
  va_get (ref := cC0) (ci := ci) hC.1 hC.2.1 hC.2.2.2.1 hin hC.2.2.1 hC.2.2.2.2 (va_P1 (he ▸ (hG r hV).1)) 0 rfl hc k hk (hC.2.2.2.1 _ hl) (fun x hxx => by rw [hT] at hxx; exact hxx) hv hdg kk
theorem g_getN {cC0 host : String} {T : u_T} {N ci index : Nat} {adK adV st : Nat → Nat} (hC : CK p m c cc s args own D E) (hE : EV adK adV st A s) (hG : GW D A V ad C H) (r : Nat) (hV : V r) {fs : List Value} (he : C r = .inr (ci, fs)) (hc : clAll[ci]? = some (cC0, T, N)) (hin : ∀ w ∈ u_ws cC0 T N, w ∈ lw_all) (k : Nat) (hk : k < N) (hl : Cond.fieldLinkNest own index cC0 (T k).2.1 (T k).2.2.1 host ∈ lw_tbl) (hT : (T k).1 = cC0) {v : Value} (hv : fs[k]? = some v) (hdg : decode cc pc = .ok (.getfield index, 3))
    (kk : W p l e R s m args below meth c H locs cells slots Q (F0 m (pc + 3) ls (v :: rest))) : W p l e R s m args below meth c H locs cells slots Q (F0 m pc ls (.ref (ad r) :: rest)) :=
  va_getN (ref := cC0) (ci := ci) hC.1 hC.2.1 hC.2.2.2.1 hin hC.2.2.1 hC.2.2.2.2 (va_P1 (he ▸ (hG r hV).1)) 0 rfl hc k hk (va_Nw.use rfl (hE.2.2.2.2.1 _ (nw_w hl rfl))) (fun x hxx => by rw [hT] at hxx; exact hxx) hv hdg kk
theorem GW.dis (hG : GW D A V ad C H) {r : Nat} (hV : V r) : va_P D clAll [(ad r, C r)] H ∧ va_D A [(ad r, C r)] := by
  refine ⟨va_P1 (hG r hV).1, ⟨fun i j x y hx hy _ => ?_, fun k q hk => ?_⟩⟩
  · cases i with
    | zero => cases j with
      | zero => rfl
      | succ j => cases hy
    | succ i => cases hx
  · cases k with
    | zero => cases hk; exact (hG r hV).2.1
    | succ k => cases hk
theorem g_put {cC0 : String} {T : u_T} {N ci index : Nat} {tyf : Nat → FieldType} (hC : CK p m c cc s args own D E) (hG : GW D A V ad C H) (hS0 : va_S A H0 H locs) (r : Nat) (hV : V r) {fs : List Value} (he : C r = .inr (ci, fs)) (hc : clAll[ci]? = some (cC0, T, N)) (hin : ∀ w ∈ u_ws cC0 T N, w ∈ lw_all) (hty : ∀ k, k < N → parseFieldDescriptor (T k).2.2.1 = some (tyf k)) (hnm : ∀ a, a < N → ∀ b, b < N → a ≠ b → (T a).2.1 ≠ (T b).2.1) (k : Nat) (hk : k < N) (hl : Cond.fieldLink own index cC0 (T k).2.1 (T k).2.2.1 ∈ lw_all) (hT : (T k).1 = cC0) (hfin : (T k).2.2.2 = false) {w : Value} (hn : narrow (tyf k) w = w) (hfit : fits (tyf k) w = true) (hlen : k < fs.length) (hdg : decode cc pc = .ok (.putfield index, 3))
    (C1 : Nat → va_E) (h1 : C1 r = .inr (ci, fs.set k w)) (h2 : ∀ q, V q → q ≠ r → C1 q = C q)
    (kk : ∀ (H1 : Heap) (locs1 : List Loc), GW D A V ad C1 H1 → va_S A H0 H1 locs1 → W p l e R s m args below meth c H1 locs1 cells slots Q (F0 m (pc + 3) ls rest)) : W p l e R s m args below meth c H locs cells slots Q (F0 m pc ls (w :: .ref (ad r) :: rest)) := by
  obtain ⟨hx, hb, hown, hts, hK⟩ := hC
  have hap := va_apart (own := own) (ci := ci) hts hin tyf hty hnm hK hc
  have hat := (hG r hV).1
  rw [he] at hat
  obtain ⟨r0, q0, cell, q1, q2, q3, q4⟩ := hat
  have hr : r0 = (cC0, T, N) := Option.some.inj (q0.symm.trans hc)
  subst hr
  obtain ⟨hS, hfc, kC, hkC, hkind⟩ := hK.1 ci _ hc
  obtain ⟨cf, kf, fi, f, hi, hsl⟩ := hS k hk
  have hlay := hts _ (hin _ (u_in_lay hk))
  unfold u_lay at hlay
  rw [if_neg (by rw [hfin]; decide)] at hlay
  have hst := (u_facts hfc hkC (u_lays hts hin hk) hi).1
  have h6 := u_store hfc hkC hkind hlay hi (hty k hk) hn hfit
  rw [hT] at hi
  refine W.putK hx hb (f := f) ⟨hown, hts _ hl, ⟨_, _, _, hi⟩, hst⟩ (by rw [q2]; exact h6) q1 q3 (by rw [hsl]; exact k2_hasslot (q4 k hk)) rfl rfl hdg fun H' e1 e2 e3 => ?_
  rw [hsl] at e1 ⊢
  refine kk H' _ (hG.set hV ?_ e3 h2) (hS0.put e2 e3 (hG r hV).2.1)
  rw [h1]
  exact ⟨_, hc, t_OB.to (V := updV (vp_V fs) k w) ⟨_, e1, q2, q3, t_set q4 hap hk w⟩ (fun j _ => vp_updV_set hlen w j)⟩
end CR
