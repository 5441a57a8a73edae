/-! MORE ROWS: bits; updates -/
def xorZ (a b : Int) : Int := (iI a ^^^ iI b).toInt
def shrZ (a b : Int) : Int := (iI a >>> (iI b &&& 31)).toInt
def ushrZ (a b : Int) : Int := ((iI a).toUInt32 >>> ((iI b).toUInt32 &&& Int32.toUInt32 31)).toInt32.toInt
def andZ (a b : Int) : Int := (iI a &&& iI b).toInt
def orZ (a b : Int) : Int := (iI a ||| iI b).toInt
section RB
variable {p : Program} {l : Launch} {e : Env} {R : Room} {s : State} {m : MethodId} {args : Array Value} {below : List Frame} {meth : Method} {c : Code} {H : Heap} {locs : List Loc} {cells slots : Nat} {Q : State → Prop}
variable {cc : ByteArray} {pc : Nat} {ls : Array Slot} {rest : List Value} {a b : Int}
theorem r_ixor (hx : p.tables.exec = Jvm.exec) (hb : c.code = cc) (hdg : decode cc pc = .ok (.ixor, 1)) (k : W p l e R s m args below meth c H locs cells slots Q (F0 m (pc + 1) ls (.int (iI (xorZ a b)) :: rest))) : W p l e R s m args below meth c H locs cells slots Q (F0 m pc ls (.int (iI b) :: .int (iI a) :: rest)) := lv_ixor hx hb hdg (by rw [xorZ, iI_of] at k; exact k)
theorem r_iand (hx : p.tables.exec = Jvm.exec) (hb : c.code = cc) (hdg : decode cc pc = .ok (.iand, 1)) (k : W p l e R s m args below meth c H locs cells slots Q (F0 m (pc + 1) ls (.int (iI (andZ a b)) :: rest))) : W p l e R s m args below meth c H locs cells slots Q (F0 m pc ls (.int (iI b) :: .int (iI a) :: rest)) := lv_iand hx hb hdg (by rw [andZ, iI_of] at k; exact k)
theorem r_ior (hx : p.tables.exec = Jvm.exec) (hb : c.code = cc) (hdg : decode cc pc = .ok (.ior, 1)) (k : W p l e R s m args below meth c H locs cells slots Q (F0 m (pc + 1) ls (.int (iI (orZ a b)) :: rest))) : W p l e R s m args below meth c H locs cells slots Q (F0 m pc ls (.int (iI b) :: .int (iI a) :: rest)) := lv_ior hx hb hdg (by rw [orZ, iI_of] at k; exact k)
theorem r_ishr (hx : p.tables.exec = Jvm.exec) (hb : c.code = cc) (hdg : decode cc pc = .ok (.ishr, 1)) (k : W p l e R s m args below meth c H locs cells slots Q (F0 m (pc + 1) ls (.int (iI (shrZ a b)) :: rest))) : W p l e R s m args below meth c H locs cells slots Q (F0 m pc ls (.int (iI b) :: .int (iI a) :: rest)) := lv_ishr hx hb hdg (by rw [shrZ, iI_of] at k; exact k)
theorem r_iushr (hx : p.tables.exec = Jvm.exec) (hb : c.code = cc) (hdg : decode cc pc = .ok (.iushr, 1)) (k : W p l e R s m args below meth c H locs cells slots Q (F0 m (pc + 1) ls (.int (iI (ushrZ a b)) :: rest))) : W p l e R s m args below meth c H locs cells slots Q (F0 m pc ls (.int (iI b) :: .int (iI a) :: rest)) := lv_iushr hx hb hdg (by rw [ushrZ, iI_of]) k
end RB
theorem xorZ_R (a b : Int) : R32 (xorZ a b) := iI_R _
theorem up_up {α : Type} (f : Nat → α) (k : Nat) (x y : α) : va_up (va_up f k x) k y = va_up f k y := by
  funext j
  by_cases h : j = k <;> simp [va_up, h]
theorem upF_up (F : Nat → Int → Int) (k : Nat) (g : Int → Int) (z v : Int) : upF (va_up F k g) k z v = va_up F k (updZ g z v) := by
  unfold upF
  rw [up_up]
  simp [va_up]
theorem up_self {α : Type} (f : Nat → α) (k : Nat) : va_up f k (f k) = f := by
  funext j
  by_cases h : j = k
  · subst h; simp [va_up]
  · simp [va_up, h]
/-- b 0 .. b (k - 1) written from s on -/
def fedT (f : Int → Int) (s : Int) (b : Int → Int) (k : Int) : Int → Int := fun z => if s ≤ z ∧ z < s + k then b (z - s) else f z
theorem fedT_0 (f : Int → Int) (s : Int) (b : Int → Int) : fedT f s b 0 = f := by
  funext z
  unfold fedT
  rw [if_neg (by omega)]
theorem fedT_s (f : Int → Int) (s : Int) (b : Int → Int) {k : Int} (hk : 0 ≤ k) : updZ (fedT f s b k) (s + k) (b k) = fedT f s b (k + 1) := by
  funext z
  unfold updZ fedT
  by_cases h : z = s + k
  · subst h
    rw [if_pos rfl, if_pos (by omega)]
    congr 1
    omega
  · rw [if_neg h]
    by_cases h2 : s ≤ z ∧ z < s + k
    · rw [if_pos h2, if_pos (by omega)]
    · rw [if_neg h2, if_neg (by omega)]
/-- the word of a byte's place among five, and the byte -/
def wordOf5 (a b c d e : Int) (k : Int) : Int := if k < 4 then a else if k < 8 then b else if k < 12 then c else if k < 16 then d else e
def byteOf5 (a b c d e : Int) (k : Int) : Int := b8 (shrZ (wordOf5 a b c d e k) (24 - 8 * k.tmod 4))
