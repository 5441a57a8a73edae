/-! ARRAYLISTS, over cells by roles -/
set_option maxRecDepth 100000

theorem shr1 {v : Int} (h : R32 v) : shrZ v 1 = v / 2 := by
  unfold shrZ
  have e : (iI 1 &&& 31 : Int32) = 1 := by decide
  rw [e]
  show ((iI v).toBitVec.sshiftRight' ((1 : Int32).toBitVec.smod 32)).toInt = v / 2
  rw [show ((1 : Int32).toBitVec.smod 32) = 1#32 by decide]
  show ((iI v).toBitVec.sshiftRight 1).toInt = v / 2
  rw [BitVec.toInt_sshiftRight, Int.shiftRight_eq_div_pow]
  show (iI v).toInt / 2 = v / 2
  rw [iI_toInt h]
def isOb (C : Nat → va_E) (q : Nat) : Prop := ∃ (ci : Nat) (fs : List Value) (r : vw_C), C q = .inr (ci, fs) ∧ clAll[ci]? = some r ∧ Cond.castable r.1 "java/lang/Object" ∈ lw_tbl
/-- every element is an object of the world, apart from the list -/
def elOK (V : Nat → Prop) (ad : Nat → Nat) (C : Nat → va_E) (rl re : Nat) (f : Nat → Option Nat) : Prop := ∀ i y, f i = some y → ∃ q, y = ad q ∧ V q ∧ q ≠ rl ∧ q ≠ re ∧ isOb C q
theorem elOK.cg {V V1 : Nat → Prop} {ad ad1 : Nat → Nat} {C C1 : Nat → va_E} {rl re : Nat} {f : Nat → Option Nat} (h : elOK V ad C rl re f) (hV : ∀ q, V q → V1 q) (ho : ∀ q, V q → q ≠ rl → q ≠ re → ad1 q = ad q ∧ C1 q = C q) : elOK V1 ad1 C1 rl re f := by
  intro i y hy
  obtain ⟨q, h1, h2, h3, h4, ci, fs, r, h5, h6, h7⟩ := h i y hy
  obtain ⟨e1, e2⟩ := ho q h2 h3 h4
  exact ⟨q, h1.trans e1.symm, hV q h2, h3, h4, ci, fs, r, e2.trans h5, h6, h7⟩
theorem clr_s {f : Nat → Option Nat} {k : Int} (hk : 0 ≤ k) : va_up (fun j : Nat => if (j : Int) < k then none else f j) k.toNat none = fun j : Nat => if (j : Int) < k + 1 then none else f j := by
  funext j
  by_cases h : j = k.toNat
  · subst h
    rw [va_up_s, if_pos (by omega)]
  · rw [va_up_ne _ _ h]
    by_cases h2 : (j : Int) < k
    · rw [if_pos h2, if_pos (by omega)]
    · rw [if_neg h2, if_neg (by omega)]
theorem clr_0 {f : Nat → Option Nat} : (fun j : Nat => if (j : Int) < 0 then none else f j) = f := by
  funext j
  rw [if_neg (by omega)]
/-- a row takes the place of another -/
theorem GW.swap {D : va_G} {A V V1 : Nat → Prop} {ad : Nat → Nat} {C : Nat → va_E} {H : Heap} (h : GW D A V1 ad C H) {re rn : Nat} (hV1 : V1 = fun q => V q ∨ q = rn) (hre : V re) (hrn : ¬ V rn) : GW D A V (va_up ad re (ad rn)) (va_up C re (C rn)) H := by
  subst hV1
  intro r hr
  by_cases c : r = re
  · subst c
    have e1 : va_up ad r (ad rn) r = ad rn := by simp [va_up]
    have e2 : va_up C r (C rn) r = C rn := by simp [va_up]
    rw [e1, e2]
    obtain ⟨h1, h2, h3⟩ := h rn (Or.inr rfl)
    refine ⟨h1, h2, fun q hq e => ?_⟩
    by_cases cq : q = r
    · exact cq
    · have e3 : va_up ad r (ad rn) q = ad q := by simp [va_up, cq]
      rw [e3] at e
      exact absurd (h3 q (Or.inl hq) e) (fun z => hrn (z ▸ hq))
  · have e1 : va_up ad re (ad rn) r = ad r := by simp [va_up, c]
    have e2 : va_up C re (C rn) r = C r := by simp [va_up, c]
    rw [e1, e2]
    obtain ⟨h1, h2, h3⟩ := h r (Or.inl hr)
    refine ⟨h1, h2, fun q hq e => ?_⟩
    by_cases cq : q = re
    · subst cq
      have e3 : va_up ad q (ad rn) q = ad rn := by simp [va_up]
      rw [e3] at e
      exact absurd (h3 rn (Or.inr rfl) e) (fun z => hrn (z ▸ hr))
    · have e3 : va_up ad re (ad rn) q = ad q := by simp [va_up, cq]
      rw [e3] at e
      exact h3 q (Or.inl hq) e
section ELA
variable {p : Program} {s : State} {m : MethodId} {args : Array Value} {c : Code} {H : Heap} {cc : ByteArray} {D : va_G} {E : Nat → ClassId} {A V : Nat → Prop} {ad : Nat → Nat} {C : Nat → va_E} {own : String} {adK adV st : Nat → Nat}
theorem elOK.any (hC : CK p m c cc s args own D E) (hE : EV adK adV st A s) (hG : GW D A V ad C H) {rl re : Nat} {f : Nat → Option Nat} (h : elOK V ad C rl re f) : ∀ i y, f i = some y → va_Any "java/lang/Object" s H y := by
  intro i y hy
  obtain ⟨q, rfl, h2, h3, h4, ci, fs, r, h5, h6, h7⟩ := h i y hy
  exact a_any hC hE hG h2 h5 h6 h7
theorem arr_rec (hC : CK p m c cc s args own D E) (hG : GW D A V ad C H) {r a n : Nat} (hV : V r) (ea : ad r = a) {f : Nat → Option Nat} (hk : C r = .inl (E 5, n, ar f)) : ∃ cell : Cell, H[a]? = some cell ∧ cell.vm.isStatics = false ∧ s.vm.findClass "[Ljava/lang/Object;" = some cell.cls := by
  subst ea
  have g := (hG r hV).1
  rw [hk] at g
  exact ⟨_, g, rfl, va_nmO (hC.2.2.2.2.2 5 _ rfl).2 (by decide)⟩
end ELA
theorem dJ3_newLength_0 : decode cJ3_newLength 0 = .ok (.iload_n 0, 1) := by decide +kernel
theorem dJ3_newLength_1 : decode cJ3_newLength 1 = .ok (.iload_n 1, 1) := by decide +kernel
theorem dJ3_newLength_2 : decode cJ3_newLength 2 = .ok (.iload_n 2, 1) := by decide +kernel
theorem dJ3_newLength_3 : decode cJ3_newLength 3 = .ok (.invokestatic 194, 3) := by decide +kernel
theorem dJ3_newLength_6 : decode cJ3_newLength 6 = .ok (.iadd, 1) := by decide +kernel
theorem dJ3_newLength_7 : decode cJ3_newLength 7 = .ok (.istore_n 3, 1) := by decide +kernel
theorem dJ3_newLength_8 : decode cJ3_newLength 8 = .ok (.iconst 0, 1) := by decide +kernel
theorem dJ3_newLength_9 : decode cJ3_newLength 9 = .ok (.iload_n 3, 1) := by decide +kernel
theorem dJ3_newLength_10 : decode cJ3_newLength 10 = .ok (.if_icmp .ge 11, 3) := by decide +kernel
theorem dJ3_newLength_13 : decode cJ3_newLength 13 = .ok (.iload_n 3, 1) := by decide +kernel
theorem dJ3_newLength_14 : decode cJ3_newLength 14 = .ok (.ldc 200, 2) := by decide +kernel
theorem dJ3_newLength_16 : decode cJ3_newLength 16 = .ok (.if_icmp .gt 5, 3) := by decide +kernel
theorem dJ3_newLength_19 : decode cJ3_newLength 19 = .ok (.iload_n 3, 1) := by decide +kernel
theorem dJ3_newLength_20 : decode cJ3_newLength 20 = .ok (.ireturn, 1) := by decide +kernel
set_option maxHeartbeats 4000000 in
theorem met_newlen (l : Launch) (o g pf : Int) (ho : 0 ≤ o ∧ o ≤ 100000) (hg : 1 ≤ g ∧ g ≤ 100000) (hp : 0 ≤ pf ∧ pf ≤ 100000) : SM l yJ3_newLength cJ3_newLength 4 (some .int) (mrm 1) [.int (iI o), .int (iI g), .int (iI pf)] (vp_Si (fun r => r = iI (o + (if g < pf then pf else g)))) := by
  refine s_start (by decide) rfl (Nat.le_of_ble_eq_true rfl) ?_
  intro p e R s m args below meth c ls Q hR hQ hC hml hr hlk hl
  have hx := hC.1
  have hb := hC.2.1
  have hown := hC.2.2.1
  have hts := hC.2.2.2
  have hl : lv_has ls 4 [(0, .int (iI o)), (1, .int (iI g)), (2, .int (iI pf))] := hl
  refine lv_iload_n hx hb dJ3_newLength_0 rfl (lv_at hl 0 rfl) ?_
  refine lv_iload_n hx hb dJ3_newLength_1 rfl (lv_at hl 1 rfl) ?_
  refine lv_iload_n hx hb dJ3_newLength_2 rfl (lv_at hl 2 rfl) ?_
  refine s_calli (j_runS (n := 2) (rest := [.int (iI o)]) (as := [.int (iI g), .int (iI pf)]) hx hb hml hown hts ((met_max l g pf (by omega) (by omega)).jm) (fun _ _ _ _ _ => trivial) (fun _ _ _ => trivial) q553 q406 q76 q407 (by decide +kernel) ⟨rfl, rfl⟩ hR (by decide) ⟨Nat.zero_le _, Nat.zero_le _⟩ rfl hl.1 rfl (Nat.le_of_ble_eq_true rfl) dJ3_newLength_3) ?_
  obtain ⟨mx, h_mx⟩ : ∃ x : Int, x = if g < pf then pf else g := ⟨_, rfl⟩
  refine W.eq (g2 := F0 m 6 ls [.int (iI mx), .int (iI o)]) (by subst h_mx; rfl) ?_
  have b_mx : 1 ≤ mx ∧ mx ≤ 100000 := by rw [h_mx]; split <;> omega
  refine r_iadd hx hb dJ3_newLength_6 ?_
  refine lv_istore_n (lv' := [(3, .int (iI (o + mx))), (0, .int (iI o)), (1, .int (iI g)), (2, .int (iI pf))]) hx hb dJ3_newLength_7 rfl hl (by decide) rfl (fun ls hl => ?_)
  refine r_iconst hx hb dJ3_newLength_8 ?_
  refine lv_iload_n hx hb dJ3_newLength_9 rfl (lv_at hl 0 rfl) ?_
  refine r_icmp_ge (tgt := 21) hx hb dJ3_newLength_10 (by decide) (by decide) (by omega) (fun c1 => ?_) (fun c1 => ?_)
  · exfalso; omega
  · refine lv_iload_n hx hb dJ3_newLength_13 rfl (lv_at hl 0 rfl) ?_
    refine r_ldc hx hb 2147483639 hown (hts _ q554) (by decide) dJ3_newLength_14 ?_
    refine r_icmp_gt (tgt := 21) hx hb dJ3_newLength_16 (by decide) (by omega) (by decide) (fun c2 => ?_) (fun c2 => ?_)
    · exfalso; omega
    · refine lv_iload_n hx hb dJ3_newLength_19 rfl (lv_at hl 0 rfl) ?_
      exact s_iret hC hr hlk hQ dJ3_newLength_20 (by rw [h_mx])
theorem dJ5_copyOf_2_0 : decode cJ5_copyOf_2 0 = .ok (.aload_n 2, 1) := by decide +kernel
theorem dJ5_copyOf_2_1 : decode cJ5_copyOf_2 1 = .ok (.ldc 110, 2) := by decide +kernel
theorem dJ5_copyOf_2_3 : decode cJ5_copyOf_2 3 = .ok (.if_acmp .ne 10, 3) := by decide +kernel
theorem dJ5_copyOf_2_6 : decode cJ5_copyOf_2 6 = .ok (.iload_n 1, 1) := by decide +kernel
theorem dJ5_copyOf_2_7 : decode cJ5_copyOf_2 7 = .ok (.anewarray 2, 3) := by decide +kernel
theorem dJ5_copyOf_2_10 : decode cJ5_copyOf_2 10 = .ok (.goto 14, 3) := by decide +kernel
theorem dJ5_copyOf_2_24 : decode cJ5_copyOf_2 24 = .ok (.astore_n 3, 1) := by decide +kernel
theorem dJ5_copyOf_2_25 : decode cJ5_copyOf_2 25 = .ok (.aload_n 0, 1) := by decide +kernel
theorem dJ5_copyOf_2_26 : decode cJ5_copyOf_2 26 = .ok (.iconst 0, 1) := by decide +kernel
theorem dJ5_copyOf_2_27 : decode cJ5_copyOf_2 27 = .ok (.aload_n 3, 1) := by decide +kernel
theorem dJ5_copyOf_2_28 : decode cJ5_copyOf_2 28 = .ok (.iconst 0, 1) := by decide +kernel
theorem dJ5_copyOf_2_29 : decode cJ5_copyOf_2 29 = .ok (.aload_n 0, 1) := by decide +kernel
theorem dJ5_copyOf_2_30 : decode cJ5_copyOf_2 30 = .ok (.arraylength, 1) := by decide +kernel
theorem dJ5_copyOf_2_31 : decode cJ5_copyOf_2 31 = .ok (.iload_n 1, 1) := by decide +kernel
theorem dJ5_copyOf_2_32 : decode cJ5_copyOf_2 32 = .ok (.invokestatic 304, 3) := by decide +kernel
theorem dJ5_copyOf_2_35 : decode cJ5_copyOf_2 35 = .ok (.invokestatic 150, 3) := by decide +kernel
theorem dJ5_copyOf_2_38 : decode cJ5_copyOf_2 38 = .ok (.aload_n 3, 1) := by decide +kernel
theorem dJ5_copyOf_2_39 : decode cJ5_copyOf_2 39 = .ok (.areturn, 1) := by decide +kernel
set_option maxHeartbeats 4000000 in
theorem met_cpy2 (l : Launch) (adK adV st : Nat → Nat) (D : va_G) (E : Nat → ClassId) (A : Nat → Prop) (V : Nat → Prop) (ad : Nat → Nat) (C : Nat → va_E) (rl re rn ae cap n1 : Nat) (f : Nat → Option Nat) (zn : Int) (hz : zn = (n1 : Int)) (hcn : cap ≤ n1) (hn1 : n1 ≤ 2000) (v_ar : V re) (e_ar : ad re = ae) (k_ar : C re = .inl (E 5, cap, ar f)) (hel : elOK V ad C rl re f) (hrn : ¬ V rn) : AM l yJ5_copyOf_2 cJ5_copyOf_2 4 (some (.array (.object "java/lang/Object"))) (amr 1 1 n1) adK adV st D E A [.ref ae, .int (iI zn), .ref (st 3)] V ad C (AQw D E A (fun v ad1 V1 C1 => ∃ x, v = .ref x ∧ V1 = (fun q => V q ∨ q = rn) ∧ ad1 rn = x ∧ C1 rn = .inl (E 5, n1, ar (fun j => if j < cap then f j else none)) ∧ ∀ q, q ≠ rn → ad1 q = ad q ∧ C1 q = C q)) 1 n1 := by
  refine a_start (by decide) rfl (Nat.le_of_ble_eq_true rfl) ?_
  intro p e R s m args below meth c ls Q hR hQ hCK hml hr hlk hnme hG hS hE hA hl
  have hx := hCK.1
  have hb := hCK.2.1
  have hown := hCK.2.2.1
  have hts := hCK.2.2.2.1
  have hK := hCK.2.2.2.2
  have hl : lv_has ls 4 [(0, .ref ae), (1, .int (iI zn)), (2, .ref (st 3))] := hl
  have hO : ∀ q, (q ≠ rn) → ad q = ad q ∧ C q = C q := fun _ _ => ⟨rfl, rfl⟩
  have hnr : re ≠ rn := fun h => hrn (h ▸ v_ar)
  refine lv_aload_n hx hb dJ5_copyOf_2_0 rfl (lv_at hl 2 rfl) ?_
  refine va_ldcM hx hb hown (hts _ q579) (hE.2.2.2.2.2.2) dJ5_copyOf_2_1 ?_
  refine lv_acmp_ne (rx := some (st 3)) (ry := some (st 3)) (tgt := 13) hx hb dJ5_copyOf_2_3 (by decide) (fun h => absurd rfl h) (fun _ => ?_)
  refine lv_iload_n hx hb dJ5_copyOf_2_6 rfl (lv_at hl 1 rfl) ?_
  refine a_anew (t := 5) (N := n1) hCK hG hS hA rn q580 hE.2.2.2.2.2.1.1 rfl hz (by omega) (by rw [hR]; show _ ≤ _; (try unfold amr); (try simp only []); omega) (by rw [hR]; show _ ≤ _; (try unfold amr); (try simp only []); omega) dJ5_copyOf_2_7 (fun x1 ad2 C3 H e_nw k_nw oo4 hG hS oh5 => ?_)
  obtain ⟨V6, hV6⟩ : ∃ X : Nat → Prop, X = fun q => V q ∨ q = rn := ⟨_, rfl⟩
  rw [← hV6] at hG
  have v_ar : V6 re := by rw [hV6]; exact Or.inl v_ar
  have e_ar : ad2 re = ae := (oo4 re (by omega)).1.trans e_ar
  have k_ar : C3 re = .inl (E 5, cap, ar f) := (oo4 re (by omega)).2.trans k_ar
  have v_nw : V6 rn := by rw [hV6]; exact Or.inr rfl
  have hel : elOK V6 ad2 C3 rl re f := hel.cg (fun q h => by rw [hV6]; exact Or.inl h) (fun q hq h1 h2 => oo4 q (fun z => hrn (z ▸ hq)))
  have hO : ∀ q, (q ≠ rn) → ad2 q = ad q ∧ C3 q = C q := fun q hq => ⟨(oo4 q (by omega)).1.trans (hO q hq).1, (oo4 q (by omega)).2.trans (hO q hq).2⟩
  refine lv_goto (tgt := 24) hx hb dJ5_copyOf_2_10 (by decide) ?_
  refine lv_astore_n (lv' := [(3, .ref x1), (0, .ref ae), (1, .int (iI zn)), (2, .ref (st 3))]) hx hb dJ5_copyOf_2_24 rfl hl (by decide) rfl (fun ls hl => ?_)
  refine lv_aload_n hx hb dJ5_copyOf_2_25 rfl (lv_at hl 1 rfl) ?_
  refine r_iconst hx hb dJ5_copyOf_2_26 ?_
  refine lv_aload_n hx hb dJ5_copyOf_2_27 rfl (lv_at hl 0 rfl) ?_
  refine r_iconst hx hb dJ5_copyOf_2_28 ?_
  refine lv_aload_n hx hb dJ5_copyOf_2_29 rfl (lv_at hl 1 rfl) ?_
  refine a_len hCK hG re e_ar v_ar k_ar (t := 5) rfl dJ5_copyOf_2_30 ?_
  refine W.eq (g2 := F0 m 31 ls [.int (iI ((cap : Nat) : Int)), .int (iI 0), .ref x1, .int (iI 0), .ref ae]) rfl ?_
  refine lv_iload_n hx hb dJ5_copyOf_2_31 rfl (lv_at hl 2 rfl) ?_
  refine s_calli (j_runS (n := 2) (rest := [.int (iI 0), .ref x1, .int (iI 0), .ref ae]) (as := [.int (iI ((cap : Nat) : Int)), .int (iI zn)]) hx hb hml hown hts ((met_min l ((cap : Nat) : Int) zn (by omega) (by omega)).jm) (fun _ _ _ _ _ => trivial) (fun _ _ _ => trivial) q581 q374 q76 q375 (by decide +kernel) ⟨rfl, rfl⟩ hR ⟨Nat.le_of_ble_eq_true rfl, Nat.le_of_ble_eq_true rfl⟩ ⟨(by rw [hR]; show _ ≤ _; (try unfold amr); (try simp only []); omega), (by rw [hR]; show _ ≤ _; (try unfold amr); (try simp only []); omega)⟩ rfl hl.1 rfl (Nat.le_of_ble_eq_true rfl) dJ5_copyOf_2_32) ?_
  obtain ⟨mn, h_mn⟩ : ∃ x : Int, x = if zn < ((cap : Nat) : Int) then zn else ((cap : Nat) : Int) := ⟨_, rfl⟩
  refine W.eq (g2 := F0 m 35 ls [.int (iI mn), .int (iI 0), .ref x1, .int (iI 0), .ref ae]) (by subst h_mn; rfl) ?_
  have e_mn : mn = ((cap : Nat) : Int) := by rw [h_mn]; split <;> omega
  subst e_mn
  refine a_copy hCK (hml.trans hl.1.symm) q582 q584 q583 q78 hG hS re rn 5 e_ar e_nw v_ar v_nw k_ar k_nw rfl rfl hcn (by omega) (fun i _ y hy => elOK.any hCK hE hG hel i y hy) (by rw [hR]; exact Nat.le_of_ble_eq_true rfl) (by rw [hR]; exact Nat.le_of_ble_eq_true rfl) dJ5_copyOf_2_35 (fun C7 H locs kk8 oo9 hG hS => ?_)
  have k_nw : C7 rn = .inl (E 5, n1, ar (fun j => if j < cap then f j else none)) := kk8
  have k_ar : C7 re = .inl (E 5, cap, ar f) := (oo9 re (by omega)).trans k_ar
  have hO : ∀ q, (q ≠ rn) → ad2 q = ad q ∧ C7 q = C q := fun q hq => ⟨(hO q hq).1, (oo9 q (by omega)).trans (hO q hq).2⟩
  refine lv_aload_n hx hb dJ5_copyOf_2_38 rfl (lv_at hl 0 rfl) ?_
  exact a_wret hCK hQ hr (Or.inr ⟨_, rfl⟩) hlk hG hS (by omega) (by omega) (Or.inr ⟨_, rfl⟩) dJ5_copyOf_2_39 (⟨_, rfl, hV6, e_nw, k_nw, hO⟩)
theorem dJ5_copyOf_0 : decode cJ5_copyOf 0 = .ok (.aload_n 0, 1) := by decide +kernel
theorem dJ5_copyOf_1 : decode cJ5_copyOf 1 = .ok (.iload_n 1, 1) := by decide +kernel
theorem dJ5_copyOf_2 : decode cJ5_copyOf 2 = .ok (.aload_n 0, 1) := by decide +kernel
theorem dJ5_copyOf_3 : decode cJ5_copyOf 3 = .ok (.invokevirtual 86, 3) := by decide +kernel
theorem dJ5_copyOf_6 : decode cJ5_copyOf 6 = .ok (.invokestatic 300, 3) := by decide +kernel
theorem dJ5_copyOf_9 : decode cJ5_copyOf 9 = .ok (.areturn, 1) := by decide +kernel
set_option maxHeartbeats 4000000 in
theorem met_cpy (l : Launch) (adK adV st : Nat → Nat) (D : va_G) (E : Nat → ClassId) (A : Nat → Prop) (V : Nat → Prop) (ad : Nat → Nat) (C : Nat → va_E) (rl re rn ae cap n1 : Nat) (f : Nat → Option Nat) (zn : Int) (hz : zn = (n1 : Int)) (hcn : cap ≤ n1) (hn1 : n1 ≤ 2000) (v_ar : V re) (e_ar : ad re = ae) (k_ar : C re = .inl (E 5, cap, ar f)) (hel : elOK V ad C rl re f) (hrn : ¬ V rn) : AM l yJ5_copyOf cJ5_copyOf 2 (some (.array (.object "java/lang/Object"))) (amr 2 1 n1) adK adV st D E A [.ref ae, .int (iI zn)] V ad C (AQw D E A (fun v ad1 V1 C1 => ∃ x, v = .ref x ∧ V1 = (fun q => V q ∨ q = rn) ∧ ad1 rn = x ∧ C1 rn = .inl (E 5, n1, ar (fun j => if j < cap then f j else none)) ∧ ∀ q, q ≠ rn → ad1 q = ad q ∧ C1 q = C q)) 1 n1 := by
  refine a_start (by decide) rfl (Nat.le_of_ble_eq_true rfl) ?_
  intro p e R s m args below meth c ls Q hR hQ hCK hml hr hlk hnme hG hS hE hA hl
  have hx := hCK.1
  have hb := hCK.2.1
  have hown := hCK.2.2.1
  have hts := hCK.2.2.2.1
  have hK := hCK.2.2.2.2
  have hl : lv_has ls 2 [(0, .ref ae), (1, .int (iI zn))] := hl
  have hO : ∀ q, (q ≠ rn) → ad q = ad q ∧ C q = C q := fun _ _ => ⟨rfl, rfl⟩
  have hnr : re ≠ rn := fun h => hrn (h ▸ v_ar)
  refine lv_aload_n hx hb dJ5_copyOf_0 rfl (lv_at hl 0 rfl) ?_
  refine lv_iload_n hx hb dJ5_copyOf_1 rfl (lv_at hl 1 rfl) ?_
  refine lv_aload_n hx hb dJ5_copyOf_2 rfl (lv_at hl 0 rfl) ?_
  refine va_getC hx hb (hml.trans hl.1.symm) hown (hts _ q561) (va_Nw.use rfl (hE.2.2.2.2.1 _ (nw_w q1557 rfl))) (hts _ q1556) (hts _ q562) (hts _ q575) (hE.2.2.2.2.2.2) (arr_rec hCK hG v_ar e_ar k_ar) (by rw [hR]; exact Nat.le_of_ble_eq_true rfl) (by rw [hR]; exact Nat.le_of_ble_eq_true rfl) dJ5_copyOf_3 ?_
  refine a_callw (a_runS (n := 3) (rest := []) (as := [.ref ae, .int (iI zn), .ref (st 3)]) hCK hE hA hml (met_cpy2 l adK adV st D E A V ad C rl re rn ae cap n1 f zn hz hcn hn1 v_ar e_ar k_ar hel hrn) q576 q577 q77 q578 (by decide +kernel) ⟨rfl, rfl⟩ hR ⟨Nat.le_of_ble_eq_true rfl, Nat.le_of_ble_eq_true rfl⟩ ⟨(by rw [hR]; show _ ≤ _; (try unfold amr); (try simp only []); omega), (by rw [hR]; show _ ≤ _; (try unfold amr); (try simp only []); omega)⟩ hG hS rfl hl.1 rfl (Nat.le_of_ble_eq_true rfl) dJ5_copyOf_6) hS (fun z1 ad2 V3 C4 H locs hp5 hG hS => ?_)
  obtain ⟨x6, rfl, hV7, e_nw, k_nw, oo8⟩ := hp5
  have v_ar : V3 re := by rw [hV7]; exact Or.inl v_ar
  have e_ar : ad2 re = ae := (oo8 re (by omega)).1.trans e_ar
  have k_ar : C4 re = .inl (E 5, cap, ar f) := (oo8 re (by omega)).2.trans k_ar
  have v_nw : V3 rn := by rw [hV7]; exact Or.inr rfl
  have hel : elOK V3 ad2 C4 rl re f := hel.cg (fun q h => by rw [hV7]; exact Or.inl h) (fun q hq h1 h2 => oo8 q (fun z => hrn (z ▸ hq)))
  have hO : ∀ q, (q ≠ rn) → ad2 q = ad q ∧ C4 q = C q := fun q hq => ⟨(oo8 q (by omega)).1.trans (hO q hq).1, (oo8 q (by omega)).2.trans (hO q hq).2⟩
  exact a_wret hCK hQ hr (Or.inr ⟨_, rfl⟩) hlk hG hS (by omega) (by omega) (Or.inr ⟨_, rfl⟩) dJ5_copyOf_9 (⟨_, rfl, hV7, e_nw, k_nw, hO⟩)
theorem dJ2_grow_2_0 : decode cJ2_grow_2 0 = .ok (.aload_n 0, 1) := by decide +kernel
theorem dJ2_grow_2_1 : decode cJ2_grow_2 1 = .ok (.getfield 9, 3) := by decide +kernel
theorem dJ2_grow_2_4 : decode cJ2_grow_2 4 = .ok (.arraylength, 1) := by decide +kernel
theorem dJ2_grow_2_5 : decode cJ2_grow_2 5 = .ok (.istore_n 2, 1) := by decide +kernel
theorem dJ2_grow_2_6 : decode cJ2_grow_2 6 = .ok (.iload_n 2, 1) := by decide +kernel
theorem dJ2_grow_2_7 : decode cJ2_grow_2 7 = .ok (.ifCond .gt 13, 3) := by decide +kernel
theorem dJ2_grow_2_20 : decode cJ2_grow_2 20 = .ok (.iload_n 2, 1) := by decide +kernel
theorem dJ2_grow_2_21 : decode cJ2_grow_2 21 = .ok (.iload_n 1, 1) := by decide +kernel
theorem dJ2_grow_2_22 : decode cJ2_grow_2 22 = .ok (.iload_n 2, 1) := by decide +kernel
theorem dJ2_grow_2_23 : decode cJ2_grow_2 23 = .ok (.isub, 1) := by decide +kernel
theorem dJ2_grow_2_24 : decode cJ2_grow_2 24 = .ok (.iload_n 2, 1) := by decide +kernel
theorem dJ2_grow_2_25 : decode cJ2_grow_2 25 = .ok (.iconst 1, 1) := by decide +kernel
theorem dJ2_grow_2_26 : decode cJ2_grow_2 26 = .ok (.ishr, 1) := by decide +kernel
theorem dJ2_grow_2_27 : decode cJ2_grow_2 27 = .ok (.invokestatic 73, 3) := by decide +kernel
theorem dJ2_grow_2_30 : decode cJ2_grow_2 30 = .ok (.istore_n 3, 1) := by decide +kernel
theorem dJ2_grow_2_31 : decode cJ2_grow_2 31 = .ok (.aload_n 0, 1) := by decide +kernel
theorem dJ2_grow_2_32 : decode cJ2_grow_2 32 = .ok (.aload_n 0, 1) := by decide +kernel
theorem dJ2_grow_2_33 : decode cJ2_grow_2 33 = .ok (.getfield 9, 3) := by decide +kernel
theorem dJ2_grow_2_36 : decode cJ2_grow_2 36 = .ok (.iload_n 3, 1) := by decide +kernel
theorem dJ2_grow_2_37 : decode cJ2_grow_2 37 = .ok (.invokestatic 66, 3) := by decide +kernel
theorem dJ2_grow_2_40 : decode cJ2_grow_2 40 = .ok (.dup_x1, 1) := by decide +kernel
theorem dJ2_grow_2_41 : decode cJ2_grow_2 41 = .ok (.putfield 9, 3) := by decide +kernel
theorem dJ2_grow_2_44 : decode cJ2_grow_2 44 = .ok (.areturn, 1) := by decide +kernel
set_option maxHeartbeats 4000000 in
theorem met_grow2 (l : Launch) (adK adV st : Nat → Nat) (D : va_G) (E : Nat → ClassId) (A : Nat → Prop) (V : Nat → Prop) (ad : Nat → Nat) (C : Nat → va_E) (rl re al ae cap : Nat) (mo n : Int) (f : Nat → Option Nat) (hne : rl ≠ re) (v_li : V rl) (e_li : ad rl = al) (k_li : C rl = .inr (10, [.int (iI mo), .ref ae, .int (iI n)])) (v_ar : V re) (e_ar : ad re = ae) (k_ar : C re = .inl (E 5, cap, ar f)) (hel : elOK V ad C rl re f) (hcap : 4 ≤ cap ∧ cap ≤ 1000) (rn : Nat) (hrn : ¬ V rn) (mn : Int) (hmn : mn = (cap : Int) + 1) : AM l yJ2_grow_2 cJ2_grow_2 4 (some (.array (.object "java/lang/Object"))) (amr 4 1 (cap + cap / 2)) adK adV st D E A [.ref al, .int (iI mn)] V ad C (AQw D E A (fun v ad1 V1 C1 => ∃ x, v = .ref x ∧ V = V1 ∧ ad1 re = x ∧ C1 re = .inl (E 5, cap + cap / 2, ar (fun j => if j < cap then f j else none)) ∧ C1 rl = .inr (10, [.int (iI mo), .ref x, .int (iI n)]) ∧ (∀ q, q ≠ re → q ≠ rn → ad1 q = ad q) ∧ ∀ q, q ≠ re → q ≠ rl → q ≠ rn → C1 q = C q)) 1 (cap + cap / 2) := by
  refine a_start (by decide) rfl (Nat.le_of_ble_eq_true rfl) ?_
  intro p e R s m args below meth c ls Q hR hQ hCK hml hr hlk hnme hG hS hE hA hl
  have hx := hCK.1
  have hb := hCK.2.1
  have hown := hCK.2.2.1
  have hts := hCK.2.2.2.1
  have hK := hCK.2.2.2.2
  have hl : lv_has ls 4 [(0, .ref al), (1, .int (iI mn))] := hl
  have hOa : ∀ q, (q ≠ rn) → ad q = ad q := fun _ _ => rfl
  have hOc : ∀ q, (q ≠ rn ∧ q ≠ rl) → C q = C q := fun _ _ => rfl
  have hnr : re ≠ rn := fun h => hrn (h ▸ v_ar)
  have hnl : rl ≠ rn := fun h => hrn (h ▸ v_li)
  have v_ar0 := v_ar
  refine lv_aload_n hx hb dJ2_grow_2_0 rfl (lv_at hl 0 rfl) ?_
  refine a_get hCK hG rl e_li v_li k_li (ci := 10) rfl in_J2 1 (by decide) q116 rfl rfl dJ2_grow_2_1 ?_
  refine W.eq (g2 := F0 m 4 ls [.ref ae]) rfl ?_
  refine a_len hCK hG re e_ar v_ar k_ar (t := 5) rfl dJ2_grow_2_4 ?_
  refine W.eq (g2 := F0 m 5 ls [.int (iI ((cap : Nat) : Int))]) rfl ?_
  refine lv_istore_n (lv' := [(2, .int (iI ((cap : Nat) : Int))), (0, .ref al), (1, .int (iI mn))]) hx hb dJ2_grow_2_5 rfl hl (by decide) rfl (fun ls hl => ?_)
  refine lv_iload_n hx hb dJ2_grow_2_6 rfl (lv_at hl 0 rfl) ?_
  refine r_if_gt (tgt := 20) hx hb dJ2_grow_2_7 (by decide) (by omega) (fun c1 => ?_) (fun c1 => absurd c1 (by omega))
  have hsh : shrZ (cap : Int) 1 = (cap : Int) / 2 := shr1 (by omega)
  refine lv_iload_n hx hb dJ2_grow_2_20 rfl (lv_at hl 0 rfl) ?_
  refine lv_iload_n hx hb dJ2_grow_2_21 rfl (lv_at hl 2 rfl) ?_
  refine lv_iload_n hx hb dJ2_grow_2_22 rfl (lv_at hl 0 rfl) ?_
  refine r_isub hx hb dJ2_grow_2_23 ?_
  refine lv_iload_n hx hb dJ2_grow_2_24 rfl (lv_at hl 0 rfl) ?_
  refine r_iconst hx hb dJ2_grow_2_25 ?_
  refine r_ishr hx hb dJ2_grow_2_26 ?_
  refine s_calli (j_runS (n := 3) (rest := []) (as := [.int (iI ((cap : Nat) : Int)), .int (iI (mn - ((cap : Nat) : Int))), .int (iI (shrZ ((cap : Nat) : Int) 1))]) hx hb hml hown hts ((met_newlen l ((cap : Nat) : Int) (mn - ((cap : Nat) : Int)) (shrZ ((cap : Nat) : Int) 1) (by omega) (by omega) (by omega)).jm) (fun _ _ _ _ _ => trivial) (fun _ _ _ => trivial) q550 q551 q75 q552 (by decide +kernel) ⟨rfl, rfl⟩ hR ⟨Nat.le_of_ble_eq_true rfl, Nat.le_of_ble_eq_true rfl⟩ ⟨Nat.zero_le _, Nat.zero_le _⟩ rfl hl.1 rfl (Nat.le_of_ble_eq_true rfl) dJ2_grow_2_27) ?_
  obtain ⟨nl, h_nl⟩ : ∃ x : Int, x = ((cap : Nat) : Int) + (if (mn - ((cap : Nat) : Int)) < (shrZ ((cap : Nat) : Int) 1) then (shrZ ((cap : Nat) : Int) 1) else (mn - ((cap : Nat) : Int))) := ⟨_, rfl⟩
  refine W.eq (g2 := F0 m 30 ls [.int (iI nl)]) (by subst h_nl; rfl) ?_
  have e_nl : nl = ((cap + cap / 2 : Nat) : Int) := by rw [h_nl, shr1 (by omega)]; split <;> omega
  refine lv_istore_n (lv' := [(3, .int (iI nl)), (2, .int (iI ((cap : Nat) : Int))), (0, .ref al), (1, .int (iI mn))]) hx hb dJ2_grow_2_30 rfl hl (by decide) rfl (fun ls hl => ?_)
  refine lv_aload_n hx hb dJ2_grow_2_31 rfl (lv_at hl 2 rfl) ?_
  refine lv_aload_n hx hb dJ2_grow_2_32 rfl (lv_at hl 2 rfl) ?_
  refine a_get hCK hG rl e_li v_li k_li (ci := 10) rfl in_J2 1 (by decide) q116 rfl rfl dJ2_grow_2_33 ?_
  refine W.eq (g2 := F0 m 36 ls [.ref ae, .ref al]) rfl ?_
  refine lv_iload_n hx hb dJ2_grow_2_36 rfl (lv_at hl 0 rfl) ?_
  refine a_callw (a_runS (n := 2) (rest := [.ref al]) (as := [.ref ae, .int (iI nl)]) hCK hE hA hml (met_cpy l adK adV st D E A V ad C rl re rn ae cap (cap + cap / 2) f nl e_nl (by omega) (by omega) v_ar e_ar k_ar hel hrn) q558 q559 q77 q560 (by decide +kernel) ⟨rfl, rfl⟩ hR ⟨Nat.le_of_ble_eq_true rfl, Nat.le_of_ble_eq_true rfl⟩ ⟨(by rw [hR]; show _ ≤ _; (try unfold amr); (try simp only []); omega), (by rw [hR]; show _ ≤ _; (try unfold amr); (try simp only []); omega)⟩ hG hS rfl hl.1 rfl (Nat.le_of_ble_eq_true rfl) dJ2_grow_2_37) hS (fun z2 ad3 V4 C5 H locs hp6 hG hS => ?_)
  obtain ⟨x7, rfl, hV8, e_nw, k_nw, oo9⟩ := hp6
  have v_li : V4 rl := by rw [hV8]; exact Or.inl v_li
  have e_li : ad3 rl = al := (oo9 rl (by omega)).1.trans e_li
  have k_li : C5 rl = .inr (10, [.int (iI mo), .ref ae, .int (iI n)]) := (oo9 rl (by omega)).2.trans k_li
  have v_ar : V4 re := by rw [hV8]; exact Or.inl v_ar
  have e_ar : ad3 re = ae := (oo9 re (by omega)).1.trans e_ar
  have k_ar : C5 re = .inl (E 5, cap, ar f) := (oo9 re (by omega)).2.trans k_ar
  have v_nw : V4 rn := by rw [hV8]; exact Or.inr rfl
  have hel : elOK V4 ad3 C5 rl re f := hel.cg (fun q h => by rw [hV8]; exact Or.inl h) (fun q hq h1 h2 => oo9 q (fun z => hrn (z ▸ hq)))
  have hOa : ∀ q, (q ≠ rn) → ad3 q = ad q := fun q hq => (oo9 q (by omega)).1.trans (hOa q hq)
  have hOc : ∀ q, (q ≠ rn ∧ q ≠ rl) → C5 q = C q := fun q hq => (oo9 q (by omega)).2.trans (hOc q hq)
  refine lv_dup_x1 hx hb dJ2_grow_2_40 rfl rfl ?_
  refine a_put (tyf := tyJ2) hCK hG hS rl e_li v_li k_li (ci := 10) rfl in_J2 tyJ2_ok nmJ2 1 (by decide) q116 rfl rfl rfl rfl (Nat.le_of_ble_eq_true rfl) dJ2_grow_2_41 (fun C10 H locs kk11 oo12 hG hS => ?_)
  have k_li : C10 rl = .inr (10, [.int (iI mo), .ref x7, .int (iI n)]) := kk11
  have k_ar : C10 re = .inl (E 5, cap, ar f) := (oo12 re (by omega)).trans k_ar
  have k_nw : C10 rn = .inl (E 5, (cap + cap / 2), ar (fun j => if j < cap then f j else none)) := (oo12 rn (by omega)).trans k_nw
  have hel : elOK V4 ad3 C10 rl re f := hel.cg (fun q h => h) (fun q _ h1 h2 => ⟨rfl, oo12 q (by omega)⟩)
  have hOa : ∀ q, (q ≠ rn) → ad3 q = ad q := hOa
  have hOc : ∀ q, (q ≠ rn ∧ q ≠ rl) → C10 q = C q := fun q hq => (oo12 q (by omega)).trans (hOc q hq)
  have hG := GW.swap hG hV8 v_ar0 hrn
  exact a_wret hCK hQ hr (Or.inr ⟨_, rfl⟩) hlk hG hS (by omega) (by omega) (Or.inr ⟨_, rfl⟩) dJ2_grow_2_44 (⟨_, rfl, rfl, (va_up_s _ _ _).trans e_nw, (va_up_s _ _ _).trans k_nw, (va_up_ne _ _ hne).trans k_li, fun q h1 h2 => (va_up_ne _ _ h1).trans (hOa q h2), fun q h1 h2 h3 => (va_up_ne _ _ h1).trans (hOc q ⟨h3, h2⟩)⟩)
theorem dJ2_grow_0 : decode cJ2_grow 0 = .ok (.aload_n 0, 1) := by decide +kernel
theorem dJ2_grow_1 : decode cJ2_grow 1 = .ok (.aload_n 0, 1) := by decide +kernel
theorem dJ2_grow_2 : decode cJ2_grow 2 = .ok (.getfield 48, 3) := by decide +kernel
theorem dJ2_grow_5 : decode cJ2_grow 5 = .ok (.iconst 1, 1) := by decide +kernel
theorem dJ2_grow_6 : decode cJ2_grow 6 = .ok (.iadd, 1) := by decide +kernel
theorem dJ2_grow_7 : decode cJ2_grow 7 = .ok (.invokevirtual 69, 3) := by decide +kernel
theorem dJ2_grow_10 : decode cJ2_grow 10 = .ok (.areturn, 1) := by decide +kernel
set_option maxHeartbeats 4000000 in
theorem met_grow (l : Launch) (adK adV st : Nat → Nat) (D : va_G) (E : Nat → ClassId) (A : Nat → Prop) (V : Nat → Prop) (ad : Nat → Nat) (C : Nat → va_E) (rl re al ae cap : Nat) (mo n : Int) (f : Nat → Option Nat) (hne : rl ≠ re) (v_li : V rl) (e_li : ad rl = al) (k_li : C rl = .inr (10, [.int (iI mo), .ref ae, .int (iI n)])) (v_ar : V re) (e_ar : ad re = ae) (k_ar : C re = .inl (E 5, cap, ar f)) (hel : elOK V ad C rl re f) (hcap : 4 ≤ cap ∧ cap ≤ 1000) (rn : Nat) (hrn : ¬ V rn) (hnc : n = (cap : Int)) : AM l yJ2_grow cJ2_grow 1 (some (.array (.object "java/lang/Object"))) (amr 5 1 (cap + cap / 2)) adK adV st D E A [.ref al] V ad C (AQw D E A (fun v ad1 V1 C1 => ∃ x, v = .ref x ∧ V = V1 ∧ ad1 re = x ∧ C1 re = .inl (E 5, cap + cap / 2, ar (fun j => if j < cap then f j else none)) ∧ C1 rl = .inr (10, [.int (iI mo), .ref x, .int (iI n)]) ∧ (∀ q, q ≠ re → q ≠ rn → ad1 q = ad q) ∧ ∀ q, q ≠ re → q ≠ rl → q ≠ rn → C1 q = C q)) 1 (cap + cap / 2) := by
  refine a_start (by decide) rfl (Nat.le_of_ble_eq_true rfl) ?_
  intro p e R s m args below meth c ls Q hR hQ hCK hml hr hlk hnme hG hS hE hA hl
  have hx := hCK.1
  have hb := hCK.2.1
  have hown := hCK.2.2.1
  have hts := hCK.2.2.2.1
  have hK := hCK.2.2.2.2
  have hl : lv_has ls 1 [(0, .ref al)] := hl
  have hOa : ∀ q, (q ≠ rn) → ad q = ad q := fun _ _ => rfl
  have hOc : ∀ q, (q ≠ rn ∧ q ≠ rl) → C q = C q := fun _ _ => rfl
  have hnr : re ≠ rn := fun h => hrn (h ▸ v_ar)
  have hnl : rl ≠ rn := fun h => hrn (h ▸ v_li)
  have v_ar0 := v_ar
  refine lv_aload_n hx hb dJ2_grow_0 rfl (lv_at hl 0 rfl) ?_
  refine lv_aload_n hx hb dJ2_grow_1 rfl (lv_at hl 0 rfl) ?_
  refine a_get hCK hG rl e_li v_li k_li (ci := 10) rfl in_J2 2 (by decide) q117 rfl rfl dJ2_grow_2 ?_
  refine W.eq (g2 := F0 m 5 ls [.int (iI n), .ref al]) rfl ?_
  refine r_iconst hx hb dJ2_grow_5 ?_
  refine r_iadd hx hb dJ2_grow_6 ?_
  refine a_callw (a_runV (n := 1) (C0 := RJ2) (b := al) (rest := []) (as := [.int (iI (n + 1))]) hCK hE hA hml (met_grow2 l adK adV st D E A V ad C rl re al ae cap mo n f hne v_li e_li k_li v_ar e_ar k_ar hel hcap rn hrn (n + 1) (by omega)) (by have h := g_rec (r := rl) (ci := 10) hK hG v_li rfl k_li; rw [e_li] at h; exact h) q544 q546 qs13 q71 q547 (by decide +kernel) ⟨rfl, rfl⟩ hR ⟨Nat.le_of_ble_eq_true rfl, Nat.le_of_ble_eq_true rfl⟩ ⟨(by rw [hR]; show _ ≤ _; (try unfold amr); (try simp only []); omega), (by rw [hR]; show _ ≤ _; (try unfold amr); (try simp only []); omega)⟩ hG hS rfl hl.1 rfl (Nat.le_of_ble_eq_true rfl) dJ2_grow_7) hS (fun z1 ad2 V3 C4 H locs hp5 hG hS => ?_)
  obtain ⟨x6, rfl, rfl, e_ar, k_ar, k_li, oo7, oo8⟩ := hp5
  have e_li : ad2 rl = al := (oo7 rl hne hnl).trans e_li
  have hel : elOK V ad2 C4 rl re (fun j => if j < cap then f j else none) := by
    have h := hel.cg (ad1 := ad2) (C1 := C4) (fun q h => h) (fun q hq h1 h2 => ⟨oo7 q h2 (fun z => hrn (z ▸ hq)), oo8 q h2 h1 (fun z => hrn (z ▸ hq))⟩)
    intro i y hy
    have hy : (if i < cap then f i else none) = some y := hy
    split at hy
    · exact h i y hy
    · cases hy
  have hOa : ∀ q, (q ≠ rn ∧ q ≠ re) → ad2 q = ad q := fun q hq => (oo7 q hq.2 hq.1).trans (hOa q (by omega))
  have hOc : ∀ q, (q ≠ rn ∧ q ≠ rl ∧ q ≠ re) → C4 q = C q := fun q hq => (oo8 q hq.2.2 hq.2.1 hq.1).trans (hOc q (by omega))
  exact a_wret hCK hQ hr (Or.inr ⟨_, rfl⟩) hlk hG hS (by omega) (by omega) (Or.inr ⟨_, rfl⟩) dJ2_grow_10 (⟨_, rfl, rfl, e_ar, k_ar, k_li, fun q h1 h2 => hOa q ⟨h2, h1⟩, fun q h1 h2 h3 => hOc q ⟨h3, h2, h1⟩⟩)
theorem dJ2_add_2_0 : decode cJ2_add_2 0 = .ok (.iload_n 3, 1) := by decide +kernel
theorem dJ2_add_2_1 : decode cJ2_add_2 1 = .ok (.aload_n 2, 1) := by decide +kernel
theorem dJ2_add_2_2 : decode cJ2_add_2 2 = .ok (.arraylength, 1) := by decide +kernel
theorem dJ2_add_2_3 : decode cJ2_add_2 3 = .ok (.if_icmp .ne 8, 3) := by decide +kernel
theorem dJ2_add_2_6 : decode cJ2_add_2 6 = .ok (.aload_n 0, 1) := by decide +kernel
theorem dJ2_add_2_7 : decode cJ2_add_2 7 = .ok (.invokevirtual 129, 3) := by decide +kernel
theorem dJ2_add_2_10 : decode cJ2_add_2 10 = .ok (.astore_n 2, 1) := by decide +kernel
theorem dJ2_add_2_11 : decode cJ2_add_2 11 = .ok (.aload_n 2, 1) := by decide +kernel
theorem dJ2_add_2_12 : decode cJ2_add_2 12 = .ok (.iload_n 3, 1) := by decide +kernel
theorem dJ2_add_2_13 : decode cJ2_add_2 13 = .ok (.aload_n 1, 1) := by decide +kernel
theorem dJ2_add_2_14 : decode cJ2_add_2 14 = .ok (.aastore, 1) := by decide +kernel
theorem dJ2_add_2_15 : decode cJ2_add_2 15 = .ok (.aload_n 0, 1) := by decide +kernel
theorem dJ2_add_2_16 : decode cJ2_add_2 16 = .ok (.iload_n 3, 1) := by decide +kernel
theorem dJ2_add_2_17 : decode cJ2_add_2 17 = .ok (.iconst 1, 1) := by decide +kernel
theorem dJ2_add_2_18 : decode cJ2_add_2 18 = .ok (.iadd, 1) := by decide +kernel
theorem dJ2_add_2_19 : decode cJ2_add_2 19 = .ok (.putfield 48, 3) := by decide +kernel
theorem dJ2_add_2_22 : decode cJ2_add_2 22 = .ok (.return_, 1) := by decide +kernel
set_option maxHeartbeats 4000000 in
theorem met_add2 (l : Launch) (adK adV st : Nat → Nat) (D : va_G) (E : Nat → ClassId) (A : Nat → Prop) (V : Nat → Prop) (ad : Nat → Nat) (C : Nat → va_E) (rl re al ae cap : Nat) (mo n : Int) (f : Nat → Option Nat) (hne : rl ≠ re) (v_li : V rl) (e_li : ad rl = al) (k_li : C rl = .inr (10, [.int (iI mo), .ref ae, .int (iI n)])) (v_ar : V re) (e_ar : ad re = ae) (k_ar : C re = .inl (E 5, cap, ar f)) (hel : elOK V ad C rl re f) (hcap : 4 ≤ cap ∧ cap ≤ 1000) (rn : Nat) (hrn : ¬ V rn) (rx xx : Nat) (v_el : V rx) (e_el : ad rx = xx) (hob : isOb C rx) (hxl : rx ≠ rl ∧ rx ≠ re) (hn0 : 0 ≤ n ∧ n ≤ (cap : Int)) (hfn : ∀ j : Nat, n ≤ (j : Int) → f j = none) (mc ms : Nat) (hmm : n = (cap : Int) → 1 ≤ mc ∧ cap + cap / 2 ≤ ms) : AM l yJ2_add_2 cJ2_add_2 4 none (amr 6 mc ms) adK adV st D E A [.ref al, .ref xx, .ref ae, .int (iI n)] V ad C (AQv D E A (fun ad1 V1 C1 => V = V1 ∧ ∃ x cap1, ((n < (cap : Int) ∧ cap1 = cap) ∨ (n = (cap : Int) ∧ cap1 = cap + cap / 2)) ∧ ad1 re = x ∧ C1 re = .inl (E 5, cap1, ar (va_up f n.toNat (some xx))) ∧ C1 rl = .inr (10, [.int (iI mo), .ref x, .int (iI (n + 1))]) ∧ (∀ q, q ≠ re → q ≠ rn → ad1 q = ad q) ∧ ∀ q, q ≠ re → q ≠ rl → q ≠ rn → C1 q = C q)) mc ms := by
  refine a_start (by decide) rfl (Nat.le_of_ble_eq_true rfl) ?_
  intro p e R s m args below meth c ls Q hR hQ hCK hml hr hlk hnme hG hS hE hA hl
  have hx := hCK.1
  have hb := hCK.2.1
  have hown := hCK.2.2.1
  have hts := hCK.2.2.2.1
  have hK := hCK.2.2.2.2
  have hl : lv_has ls 4 [(0, .ref al), (1, .ref xx), (2, .ref ae), (3, .int (iI n))] := hl
  have hOa : ∀ q, (q ≠ rn) → ad q = ad q := fun _ _ => rfl
  have hOc : ∀ q, (q ≠ rn ∧ q ≠ rl ∧ q ≠ re) → C q = C q := fun _ _ => rfl
  have hnr : re ≠ rn := fun h => hrn (h ▸ v_ar)
  have hnl : rl ≠ rn := fun h => hrn (h ▸ v_li)
  have hnx : rx ≠ rn := fun h => hrn (h ▸ v_el)
  have hob0 := hob
  obtain ⟨ci, fs, r0, k_el, hcl, hcst⟩ := hob
  refine lv_iload_n hx hb dJ2_add_2_0 rfl (lv_at hl 3 rfl) ?_
  refine lv_aload_n hx hb dJ2_add_2_1 rfl (lv_at hl 2 rfl) ?_
  refine a_len hCK hG re e_ar v_ar k_ar (t := 5) rfl dJ2_add_2_2 ?_
  refine W.eq (g2 := F0 m 3 ls [.int (iI ((cap : Nat) : Int)), .int (iI n)]) rfl ?_
  refine r_icmp_ne (tgt := 11) hx hb dJ2_add_2_3 (by decide) (by omega) (by omega) (fun c9 => ?_) (fun c9 => ?_)
  · refine lv_aload_n hx hb dJ2_add_2_11 rfl (lv_at hl 2 rfl) ?_
    refine lv_iload_n hx hb dJ2_add_2_12 rfl (lv_at hl 3 rfl) ?_
    refine lv_aload_n hx hb dJ2_add_2_13 rfl (lv_at hl 1 rfl) ?_
    refine a_ast hCK hG hS re e_ar v_ar k_ar (t := 5) rfl (by omega) (by omega) (by have h := a_any hCK hE hG v_el k_el hcl hcst; rw [e_el] at h; exact h) dJ2_add_2_14 (fun C1 H locs kk2 oo3 hG hS oq4 => ?_)
    have k_ar : C1 re = .inl (E 5, cap, ar (va_up f n.toNat (some xx))) := kk2
    have k_li : C1 rl = .inr (10, [.int (iI mo), .ref ae, .int (iI n)]) := (oo3 rl (by omega)).trans k_li
    have k_el : C1 rx = .inr (ci, fs) := (oo3 rx (by omega)).trans k_el
    have hOa : ∀ q, (q ≠ rn) → ad q = ad q := hOa
    have hOc : ∀ q, (q ≠ rn ∧ q ≠ rl ∧ q ≠ re) → C1 q = C q := fun q hq => (oo3 q (by omega)).trans (hOc q hq)
    refine lv_aload_n hx hb dJ2_add_2_15 rfl (lv_at hl 0 rfl) ?_
    refine lv_iload_n hx hb dJ2_add_2_16 rfl (lv_at hl 3 rfl) ?_
    refine r_iconst hx hb dJ2_add_2_17 ?_
    refine r_iadd hx hb dJ2_add_2_18 ?_
    refine a_put (tyf := tyJ2) hCK hG hS rl e_li v_li k_li (ci := 10) rfl in_J2 tyJ2_ok nmJ2 2 (by decide) q117 rfl rfl rfl rfl (Nat.le_of_ble_eq_true rfl) dJ2_add_2_19 (fun C5 H locs kk6 oo7 hG hS => ?_)
    have k_li : C5 rl = .inr (10, [.int (iI mo), .ref ae, .int (iI (n + 1))]) := kk6
    have k_ar : C5 re = .inl (E 5, cap, ar (va_up f n.toNat (some xx))) := (oo7 re (by omega)).trans k_ar
    have k_el : C5 rx = .inr (ci, fs) := (oo7 rx (by omega)).trans k_el
    have hOa : ∀ q, (q ≠ rn) → ad q = ad q := hOa
    have hOc : ∀ q, (q ≠ rn ∧ q ≠ rl ∧ q ≠ re) → C5 q = C q := fun q hq => (oo7 q (by omega)).trans (hOc q hq)
    exact a_vret hCK hQ hr hlk hG hS (Nat.zero_le _) (Nat.zero_le _) dJ2_add_2_22 (⟨rfl, _, cap, Or.inl ⟨by omega, rfl⟩, e_ar, k_ar, k_li, fun q h1 h2 => hOa q h2, fun q h1 h2 h3 => hOc q ⟨h3, h2, h1⟩⟩)
  · have hm := hmm c9
    refine lv_aload_n hx hb dJ2_add_2_6 rfl (lv_at hl 0 rfl) ?_
    refine a_callw (a_runV (n := 0) (C0 := RJ2) (b := al) (rest := []) (as := []) hCK hE hA hml (met_grow l adK adV st D E A V ad C rl re al ae cap mo n f hne v_li e_li k_li v_ar e_ar k_ar hel hcap rn hrn (by omega)) (by have h := g_rec (r := rl) (ci := 10) hK hG v_li rfl k_li; rw [e_li] at h; exact h) q540 q542 qs12 q71 q543 (by decide +kernel) ⟨rfl, rfl⟩ hR ⟨Nat.le_of_ble_eq_true rfl, Nat.le_of_ble_eq_true rfl⟩ ⟨(by rw [hR]; show _ ≤ _; (try unfold amr); (try simp only []); omega), (by rw [hR]; show _ ≤ _; (try unfold amr); (try simp only []); omega)⟩ hG hS rfl hl.1 rfl (Nat.le_of_ble_eq_true rfl) dJ2_add_2_7) hS (fun z8 ad9 V10 C11 H locs hp12 hG hS => ?_)
    obtain ⟨x13, rfl, rfl, e_ar, k_ar, k_li, oo14, oo15⟩ := hp12
    have e_li : ad9 rl = al := (oo14 rl hne hnl).trans e_li
    have e_el : ad9 rx = xx := (oo14 rx (by omega) (by omega)).trans e_el
    have k_el : C11 rx = .inr (ci, fs) := (oo15 rx (by omega) (by omega) (by omega)).trans k_el
    have hel : elOK V ad9 C11 rl re (fun j => if j < cap then f j else none) := by
      have h := hel.cg (ad1 := ad9) (C1 := C11) (fun q h => h) (fun q hq h1 h2 => ⟨oo14 q h2 (fun z => hrn (z ▸ hq)), oo15 q h2 h1 (fun z => hrn (z ▸ hq))⟩)
      intro i y hy
      have hy : (if i < cap then f i else none) = some y := hy
      split at hy
      · exact h i y hy
      · cases hy
    have hOa : ∀ q, (q ≠ rn ∧ q ≠ re) → ad9 q = ad q := fun q hq => (oo14 q hq.2 hq.1).trans (hOa q (by omega))
    have hOc : ∀ q, (q ≠ rn ∧ q ≠ rl ∧ q ≠ re) → C11 q = C q := fun q hq => (oo15 q hq.2.2 hq.2.1 hq.1).trans (hOc q (by omega))
    refine lv_astore_n (lv' := [(2, .ref x13), (0, .ref al), (1, .ref xx), (3, .int (iI n))]) hx hb dJ2_add_2_10 rfl hl (by decide) rfl (fun ls hl => ?_)
    refine lv_aload_n hx hb dJ2_add_2_11 rfl (lv_at hl 0 rfl) ?_
    refine lv_iload_n hx hb dJ2_add_2_12 rfl (lv_at hl 3 rfl) ?_
    refine lv_aload_n hx hb dJ2_add_2_13 rfl (lv_at hl 2 rfl) ?_
    refine a_ast hCK hG hS re e_ar v_ar k_ar (t := 5) rfl (by omega) (by omega) (by have h := a_any hCK hE hG v_el k_el hcl hcst; rw [e_el] at h; exact h) dJ2_add_2_14 (fun C16 H locs kk17 oo18 hG hS oq19 => ?_)
    have k_ar : C16 re = .inl (E 5, cap + cap / 2, ar (va_up (fun j => if j < cap then f j else none) n.toNat (some xx))) := kk17
    have k_li : C16 rl = .inr (10, [.int (iI mo), .ref x13, .int (iI n)]) := (oo18 rl (by omega)).trans k_li
    have k_el : C16 rx = .inr (ci, fs) := (oo18 rx (by omega)).trans k_el
    have hOa : ∀ q, (q ≠ rn ∧ q ≠ re) → ad9 q = ad q := hOa
    have hOc : ∀ q, (q ≠ rn ∧ q ≠ rl ∧ q ≠ re) → C16 q = C q := fun q hq => (oo18 q (by omega)).trans (hOc q hq)
    refine lv_aload_n hx hb dJ2_add_2_15 rfl (lv_at hl 1 rfl) ?_
    refine lv_iload_n hx hb dJ2_add_2_16 rfl (lv_at hl 3 rfl) ?_
    refine r_iconst hx hb dJ2_add_2_17 ?_
    refine r_iadd hx hb dJ2_add_2_18 ?_
    refine a_put (tyf := tyJ2) hCK hG hS rl e_li v_li k_li (ci := 10) rfl in_J2 tyJ2_ok nmJ2 2 (by decide) q117 rfl rfl rfl rfl (Nat.le_of_ble_eq_true rfl) dJ2_add_2_19 (fun C20 H locs kk21 oo22 hG hS => ?_)
    have k_li : C20 rl = .inr (10, [.int (iI mo), .ref x13, .int (iI (n + 1))]) := kk21
    have k_ar : C20 re = .inl (E 5, cap + cap / 2, ar (va_up (fun j => if j < cap then f j else none) n.toNat (some xx))) := (oo22 re (by omega)).trans k_ar
    have k_el : C20 rx = .inr (ci, fs) := (oo22 rx (by omega)).trans k_el
    have hOa : ∀ q, (q ≠ rn ∧ q ≠ re) → ad9 q = ad q := hOa
    have hOc : ∀ q, (q ≠ rn ∧ q ≠ rl ∧ q ≠ re) → C20 q = C q := fun q hq => (oo22 q (by omega)).trans (hOc q hq)
    exact a_vret hCK hQ hr hlk hG hS (by omega) (by omega) dJ2_add_2_22 (⟨rfl, _, cap + cap / 2, Or.inr ⟨c9, rfl⟩, e_ar, by rw [k_ar]; congr 4; funext j; by_cases hj : j = n.toNat <;> simp [va_up, hj] <;> (intro h; exact (hfn j (by omega)).symm), k_li, fun q h1 h2 => hOa q ⟨h2, h1⟩, fun q h1 h2 h3 => hOc q ⟨h3, h2, h1⟩⟩)
theorem dJ2_add_0 : decode cJ2_add 0 = .ok (.aload_n 0, 1) := by decide +kernel
theorem dJ2_add_1 : decode cJ2_add 1 = .ok (.dup, 1) := by decide +kernel
theorem dJ2_add_2 : decode cJ2_add 2 = .ok (.getfield 63, 3) := by decide +kernel
theorem dJ2_add_5 : decode cJ2_add 5 = .ok (.iconst 1, 1) := by decide +kernel
theorem dJ2_add_6 : decode cJ2_add 6 = .ok (.iadd, 1) := by decide +kernel
theorem dJ2_add_7 : decode cJ2_add 7 = .ok (.putfield 63, 3) := by decide +kernel
theorem dJ2_add_10 : decode cJ2_add 10 = .ok (.aload_n 0, 1) := by decide +kernel
theorem dJ2_add_11 : decode cJ2_add 11 = .ok (.aload_n 1, 1) := by decide +kernel
theorem dJ2_add_12 : decode cJ2_add 12 = .ok (.aload_n 0, 1) := by decide +kernel
theorem dJ2_add_13 : decode cJ2_add 13 = .ok (.getfield 9, 3) := by decide +kernel
theorem dJ2_add_16 : decode cJ2_add 16 = .ok (.aload_n 0, 1) := by decide +kernel
theorem dJ2_add_17 : decode cJ2_add 17 = .ok (.getfield 48, 3) := by decide +kernel
theorem dJ2_add_20 : decode cJ2_add 20 = .ok (.invokevirtual 131, 3) := by decide +kernel
theorem dJ2_add_23 : decode cJ2_add 23 = .ok (.iconst 1, 1) := by decide +kernel
theorem dJ2_add_24 : decode cJ2_add 24 = .ok (.ireturn, 1) := by decide +kernel
set_option maxHeartbeats 4000000 in
theorem met_add (l : Launch) (adK adV st : Nat → Nat) (D : va_G) (E : Nat → ClassId) (A : Nat → Prop) (V : Nat → Prop) (ad : Nat → Nat) (C : Nat → va_E) (rl re al ae cap : Nat) (mo n : Int) (f : Nat → Option Nat) (hne : rl ≠ re) (v_li : V rl) (e_li : ad rl = al) (k_li : C rl = .inr (10, [.int (iI mo), .ref ae, .int (iI n)])) (v_ar : V re) (e_ar : ad re = ae) (k_ar : C re = .inl (E 5, cap, ar f)) (hel : elOK V ad C rl re f) (hcap : 4 ≤ cap ∧ cap ≤ 1000) (rn : Nat) (hrn : ¬ V rn) (rx xx : Nat) (v_el : V rx) (e_el : ad rx = xx) (hob : isOb C rx) (hxl : rx ≠ rl ∧ rx ≠ re) (hn0 : 0 ≤ n ∧ n ≤ (cap : Int)) (hfn : ∀ j : Nat, n ≤ (j : Int) → f j = none) (mc ms : Nat) (hmm : n = (cap : Int) → 1 ≤ mc ∧ cap + cap / 2 ≤ ms) : AM l yJ2_add cJ2_add 2 (some .boolean) (amr 7 mc ms) adK adV st D E A [.ref al, .ref xx] V ad C (AQi D E A (fun z ad1 V1 C1 => 1 = z ∧ V = V1 ∧ ∃ x cap1, ((n < (cap : Int) ∧ cap1 = cap) ∨ (n = (cap : Int) ∧ cap1 = cap + cap / 2)) ∧ ad1 re = x ∧ C1 re = .inl (E 5, cap1, ar (va_up f n.toNat (some xx))) ∧ C1 rl = .inr (10, [.int (iI (mo + 1)), .ref x, .int (iI (n + 1))]) ∧ (∀ q, q ≠ re → q ≠ rn → ad1 q = ad q) ∧ ∀ q, q ≠ re → q ≠ rl → q ≠ rn → C1 q = C q)) mc ms := by
  refine a_start (by decide) rfl (Nat.le_of_ble_eq_true rfl) ?_
  intro p e R s m args below meth c ls Q hR hQ hCK hml hr hlk hnme hG hS hE hA hl
  have hx := hCK.1
  have hb := hCK.2.1
  have hown := hCK.2.2.1
  have hts := hCK.2.2.2.1
  have hK := hCK.2.2.2.2
  have hl : lv_has ls 2 [(0, .ref al), (1, .ref xx)] := hl
  have hOa : ∀ q, (q ≠ rn) → ad q = ad q := fun _ _ => rfl
  have hOc : ∀ q, (q ≠ rn ∧ q ≠ rl ∧ q ≠ re) → C q = C q := fun _ _ => rfl
  have hnr : re ≠ rn := fun h => hrn (h ▸ v_ar)
  have hnl : rl ≠ rn := fun h => hrn (h ▸ v_li)
  have hnx : rx ≠ rn := fun h => hrn (h ▸ v_el)
  have hob0 := hob
  obtain ⟨ci, fs, r0, k_el, hcl, hcst⟩ := hob
  refine lv_aload_n hx hb dJ2_add_0 rfl (lv_at hl 0 rfl) ?_
  refine lv_dup hx hb dJ2_add_1 rfl ?_
  refine a_getS hCK hG rl e_li v_li k_li (ci := 10) rfl in_J2 0 (by decide) q119 (fun x h => u_same (hts _ q120) x h) rfl dJ2_add_2 ?_
  refine W.eq (g2 := F0 m 5 ls [.int (iI mo), .ref al]) rfl ?_
  refine r_iconst hx hb dJ2_add_5 ?_
  refine r_iadd hx hb dJ2_add_6 ?_
  refine a_putS (ref := "java/util/ArrayList") (tyf := tyJ2) hCK hG hS rl e_li v_li k_li (ci := 10) rfl in_J2 tyJ2_ok nmJ2 0 (by decide) q119 (fun x h => u_same (hts _ q120) x h) rfl rfl rfl (Nat.le_of_ble_eq_true rfl) dJ2_add_7 (fun C1 H locs kk2 oo3 hG hS => ?_)
  have k_li : C1 rl = .inr (10, [.int (iI (mo + 1)), .ref ae, .int (iI n)]) := kk2
  have k_ar : C1 re = .inl (E 5, cap, ar f) := (oo3 re (by omega)).trans k_ar
  have k_el : C1 rx = .inr (ci, fs) := (oo3 rx (by omega)).trans k_el
  have hel : elOK V ad C1 rl re f := hel.cg (fun q h => h) (fun q _ h1 h2 => ⟨rfl, oo3 q (by omega)⟩)
  have hOa : ∀ q, (q ≠ rn) → ad q = ad q := hOa
  have hOc : ∀ q, (q ≠ rn ∧ q ≠ rl ∧ q ≠ re) → C1 q = C q := fun q hq => (oo3 q (by omega)).trans (hOc q hq)
  refine lv_aload_n hx hb dJ2_add_10 rfl (lv_at hl 0 rfl) ?_
  refine lv_aload_n hx hb dJ2_add_11 rfl (lv_at hl 1 rfl) ?_
  refine lv_aload_n hx hb dJ2_add_12 rfl (lv_at hl 0 rfl) ?_
  refine a_get hCK hG rl e_li v_li k_li (ci := 10) rfl in_J2 1 (by decide) q116 rfl rfl dJ2_add_13 ?_
  refine W.eq (g2 := F0 m 16 ls [.ref ae, .ref xx, .ref al]) rfl ?_
  refine lv_aload_n hx hb dJ2_add_16 rfl (lv_at hl 0 rfl) ?_
  refine a_get hCK hG rl e_li v_li k_li (ci := 10) rfl in_J2 2 (by decide) q117 rfl rfl dJ2_add_17 ?_
  refine W.eq (g2 := F0 m 20 ls [.int (iI n), .ref ae, .ref xx, .ref al]) rfl ?_
  refine a_callv (a_runV (n := 3) (C0 := RJ2) (b := al) (rest := []) (as := [.ref xx, .ref ae, .int (iI n)]) hCK hE hA hml (met_add2 l adK adV st D E A V ad C1 rl re al ae cap (mo + 1) n f hne v_li e_li k_li v_ar e_ar k_ar hel hcap rn hrn rx xx v_el e_el ⟨ci, fs, r0, k_el, hcl, hcst⟩ hxl hn0 hfn mc ms hmm) (by have h := g_rec (r := rl) (ci := 10) hK hG v_li rfl k_li; rw [e_li] at h; exact h) q536 q538 qs11 q71 q539 (by decide +kernel) ⟨rfl, rfl⟩ hR ⟨Nat.le_of_ble_eq_true rfl, Nat.le_of_ble_eq_true rfl⟩ ⟨(by rw [hR]; show _ ≤ _; (try unfold amr); (try simp only []); omega), (by rw [hR]; show _ ≤ _; (try unfold amr); (try simp only []); omega)⟩ hG hS rfl hl.1 rfl (Nat.le_of_ble_eq_true rfl) dJ2_add_20) hS (fun ad5 V6 C7 H locs hp8 hG hS => ?_)
  obtain ⟨rfl, x9, cap10, hc11, e_ar, k_ar, k_li, oo12, oo13⟩ := hp8
  refine r_iconst hx hb dJ2_add_23 ?_
  exact a_zret hCK hQ hr hlk hG hS (by omega) (by omega) (by decide) dJ2_add_24 (⟨rfl, rfl, x9, cap10, hc11, e_ar, k_ar, k_li, fun q h1 h2 => (oo12 q h1 h2).trans (hOa q h2), fun q h1 h2 h3 => (oo13 q h1 h2 h3).trans (hOc q ⟨h3, h2, h1⟩)⟩)
theorem dJ2_clear_0 : decode cJ2_clear 0 = .ok (.aload_n 0, 1) := by decide +kernel
theorem dJ2_clear_1 : decode cJ2_clear 1 = .ok (.dup, 1) := by decide +kernel
theorem dJ2_clear_2 : decode cJ2_clear 2 = .ok (.getfield 63, 3) := by decide +kernel
theorem dJ2_clear_5 : decode cJ2_clear 5 = .ok (.iconst 1, 1) := by decide +kernel
theorem dJ2_clear_6 : decode cJ2_clear 6 = .ok (.iadd, 1) := by decide +kernel
theorem dJ2_clear_7 : decode cJ2_clear 7 = .ok (.putfield 63, 3) := by decide +kernel
theorem dJ2_clear_10 : decode cJ2_clear 10 = .ok (.aload_n 0, 1) := by decide +kernel
theorem dJ2_clear_11 : decode cJ2_clear 11 = .ok (.getfield 9, 3) := by decide +kernel
theorem dJ2_clear_14 : decode cJ2_clear 14 = .ok (.astore_n 1, 1) := by decide +kernel
theorem dJ2_clear_15 : decode cJ2_clear 15 = .ok (.aload_n 0, 1) := by decide +kernel
theorem dJ2_clear_16 : decode cJ2_clear 16 = .ok (.getfield 48, 3) := by decide +kernel
theorem dJ2_clear_19 : decode cJ2_clear 19 = .ok (.istore_n 2, 1) := by decide +kernel
theorem dJ2_clear_20 : decode cJ2_clear 20 = .ok (.aload_n 0, 1) := by decide +kernel
theorem dJ2_clear_21 : decode cJ2_clear 21 = .ok (.iconst 0, 1) := by decide +kernel
theorem dJ2_clear_22 : decode cJ2_clear 22 = .ok (.dup_x1, 1) := by decide +kernel
theorem dJ2_clear_23 : decode cJ2_clear 23 = .ok (.putfield 48, 3) := by decide +kernel
theorem dJ2_clear_26 : decode cJ2_clear 26 = .ok (.istore_n 3, 1) := by decide +kernel
theorem dJ2_clear_27 : decode cJ2_clear 27 = .ok (.iload_n 3, 1) := by decide +kernel
theorem dJ2_clear_28 : decode cJ2_clear 28 = .ok (.iload_n 2, 1) := by decide +kernel
theorem dJ2_clear_29 : decode cJ2_clear 29 = .ok (.if_icmp .ge 13, 3) := by decide +kernel
theorem dJ2_clear_32 : decode cJ2_clear 32 = .ok (.aload_n 1, 1) := by decide +kernel
theorem dJ2_clear_33 : decode cJ2_clear 33 = .ok (.iload_n 3, 1) := by decide +kernel
theorem dJ2_clear_34 : decode cJ2_clear 34 = .ok (.aconst_null, 1) := by decide +kernel
theorem dJ2_clear_35 : decode cJ2_clear 35 = .ok (.aastore, 1) := by decide +kernel
theorem dJ2_clear_36 : decode cJ2_clear 36 = .ok (.iinc 3 1, 3) := by decide +kernel
theorem dJ2_clear_39 : decode cJ2_clear 39 = .ok (.goto (-12), 3) := by decide +kernel
theorem dJ2_clear_42 : decode cJ2_clear 42 = .ok (.return_, 1) := by decide +kernel
set_option maxHeartbeats 4000000 in
theorem met_lclear (l : Launch) (adK adV st : Nat → Nat) (D : va_G) (E : Nat → ClassId) (A : Nat → Prop) (V : Nat → Prop) (ad : Nat → Nat) (C : Nat → va_E) (rl re al ae cap : Nat) (mo n : Int) (f : Nat → Option Nat) (hne : rl ≠ re) (v_li : V rl) (e_li : ad rl = al) (k_li : C rl = .inr (10, [.int (iI mo), .ref ae, .int (iI n)])) (v_ar : V re) (e_ar : ad re = ae) (k_ar : C re = .inl (E 5, cap, ar f)) (hel : elOK V ad C rl re f) (hcap : 4 ≤ cap ∧ cap ≤ 1000) (hn0 : 0 ≤ n ∧ n ≤ (cap : Int)) (hfn : ∀ j : Nat, n ≤ (j : Int) → f j = none) : AM l yJ2_clear cJ2_clear 4 none (amr 0 0 0) adK adV st D E A [.ref al] V ad C (AQv D E A (fun ad1 V1 C1 => V = V1 ∧ ad = ad1 ∧ C1 re = .inl (E 5, cap, ar (fun _ => none)) ∧ C1 rl = .inr (10, [.int (iI (mo + 1)), .ref ae, .int (iI 0)]) ∧ ∀ q, q ≠ re → q ≠ rl → C1 q = C q)) 0 0 := by
  refine a_start (by decide) rfl (Nat.le_of_ble_eq_true rfl) ?_
  intro p e R s m args below meth c ls Q hR hQ hCK hml hr hlk hnme hG hS hE hA hl
  have hx := hCK.1
  have hb := hCK.2.1
  have hown := hCK.2.2.1
  have hts := hCK.2.2.2.1
  have hK := hCK.2.2.2.2
  have hl : lv_has ls 4 [(0, .ref al)] := hl
  have hOc : ∀ q, (q ≠ rl ∧ q ≠ re) → C q = C q := fun _ _ => rfl
  refine lv_aload_n hx hb dJ2_clear_0 rfl (lv_at hl 0 rfl) ?_
  refine lv_dup hx hb dJ2_clear_1 rfl ?_
  refine a_getS hCK hG rl e_li v_li k_li (ci := 10) rfl in_J2 0 (by decide) q119 (fun x h => u_same (hts _ q120) x h) rfl dJ2_clear_2 ?_
  refine W.eq (g2 := F0 m 5 ls [.int (iI mo), .ref al]) rfl ?_
  refine r_iconst hx hb dJ2_clear_5 ?_
  refine r_iadd hx hb dJ2_clear_6 ?_
  refine a_putS (ref := "java/util/ArrayList") (tyf := tyJ2) hCK hG hS rl e_li v_li k_li (ci := 10) rfl in_J2 tyJ2_ok nmJ2 0 (by decide) q119 (fun x h => u_same (hts _ q120) x h) rfl rfl rfl (Nat.le_of_ble_eq_true rfl) dJ2_clear_7 (fun C1 H locs kk2 oo3 hG hS => ?_)
  have k_li : C1 rl = .inr (10, [.int (iI (mo + 1)), .ref ae, .int (iI n)]) := kk2
  have k_ar : C1 re = .inl (E 5, cap, ar f) := (oo3 re (by omega)).trans k_ar
  have hOc : ∀ q, (q ≠ rl ∧ q ≠ re) → C1 q = C q := fun q hq => (oo3 q (by omega)).trans (hOc q hq)
  refine lv_aload_n hx hb dJ2_clear_10 rfl (lv_at hl 0 rfl) ?_
  refine a_get hCK hG rl e_li v_li k_li (ci := 10) rfl in_J2 1 (by decide) q116 rfl rfl dJ2_clear_11 ?_
  refine W.eq (g2 := F0 m 14 ls [.ref ae]) rfl ?_
  refine lv_astore_n (lv' := [(1, .ref ae), (0, .ref al)]) hx hb dJ2_clear_14 rfl hl (by decide) rfl (fun ls hl => ?_)
  refine lv_aload_n hx hb dJ2_clear_15 rfl (lv_at hl 1 rfl) ?_
  refine a_get hCK hG rl e_li v_li k_li (ci := 10) rfl in_J2 2 (by decide) q117 rfl rfl dJ2_clear_16 ?_
  refine W.eq (g2 := F0 m 19 ls [.int (iI n)]) rfl ?_
  refine lv_istore_n (lv' := [(2, .int (iI n)), (1, .ref ae), (0, .ref al)]) hx hb dJ2_clear_19 rfl hl (by decide) rfl (fun ls hl => ?_)
  refine lv_aload_n hx hb dJ2_clear_20 rfl (lv_at hl 2 rfl) ?_
  refine r_iconst hx hb dJ2_clear_21 ?_
  refine lv_dup_x1 hx hb dJ2_clear_22 rfl rfl ?_
  refine a_put (tyf := tyJ2) hCK hG hS rl e_li v_li k_li (ci := 10) rfl in_J2 tyJ2_ok nmJ2 2 (by decide) q117 rfl rfl rfl rfl (Nat.le_of_ble_eq_true rfl) dJ2_clear_23 (fun C4 H locs kk5 oo6 hG hS => ?_)
  have k_li : C4 rl = .inr (10, [.int (iI (mo + 1)), .ref ae, .int (iI 0)]) := kk5
  have k_ar : C4 re = .inl (E 5, cap, ar f) := (oo6 re (by omega)).trans k_ar
  have hOc : ∀ q, (q ≠ rl ∧ q ≠ re) → C4 q = C q := fun q hq => (oo6 q (by omega)).trans (hOc q hq)
  refine lv_istore_n (lv' := [(3, .int (iI 0)), (2, .int (iI n)), (1, .ref ae), (0, .ref al)]) hx hb dJ2_clear_26 rfl hl (by decide) rfl (fun ls hl => ?_)
  have loop27_7 : ∀ (nd : Nat) (k : Int) (Vg : Nat → Prop) (adg : Nat → Nat) (Cg : Nat → va_E), n - k < (nd : Int) → (Vg rl) → (adg rl = al) → (Cg rl = .inr (10, [.int (iI (mo + 1)), .ref ae, .int (iI 0)])) → (Vg re) → (adg re = ae) → (Cg re = .inl (E 5, cap, ar (fun j => if (j : Int) < k then none else f j))) → (∀ q, (q ≠ rl ∧ q ≠ re) → Cg q = C q) → (0 ≤ k) → (k ≤ n) → (V = Vg) → (ad = adg) → ∀ (H : Heap) (locs : List Loc) (ls : Array Slot), GW D A Vg adg Cg H → va_S A s.heap H locs → lv_has ls 4 [(3, .int (iI k)), (2, .int (iI n)), (1, .ref ae), (0, .ref al)] → W p l e R s m args below meth c H locs 0 0 Q (F0 m 27 ls []) := by
    intro nd
    induction nd with
    | zero => intro k Vg adg Cg hn9 v_li e_li k_li v_ar e_ar k_ar hOc hk0 hk1 eV ea; exfalso; omega
    | succ nd ih8 =>
      intro k Vg adg Cg hn9 v_li e_li k_li v_ar e_ar k_ar hOc hk0 hk1 eV ea H locs ls hG hS hl
      subst eV
      subst ea
      refine lv_iload_n hx hb dJ2_clear_27 rfl (lv_at hl 0 rfl) ?_
      refine lv_iload_n hx hb dJ2_clear_28 rfl (lv_at hl 1 rfl) ?_
      refine r_icmp_ge (tgt := 42) hx hb dJ2_clear_29 (by decide) (by omega) (by omega) (fun c10 => ?_) (fun c10 => ?_)
      · have ek : k = n := by omega
        exact a_vret hCK hQ hr hlk hG hS (by omega) (by omega) dJ2_clear_42 (⟨rfl, rfl, by rw [k_ar]; congr 4; funext j; by_cases h : (j : Int) < k <;> simp [h]; exact hfn j (by omega), k_li, fun q h1 h2 => hOc q ⟨h2, h1⟩⟩)
      · refine lv_aload_n hx hb dJ2_clear_32 rfl (lv_at hl 2 rfl) ?_
        refine lv_iload_n hx hb dJ2_clear_33 rfl (lv_at hl 0 rfl) ?_
        refine lv_null hx hb dJ2_clear_34 ?_
        refine a_astN hCK hG hS re e_ar v_ar k_ar (t := 5) rfl (by omega) (by omega) dJ2_clear_35 (fun C11 H locs kk12 oo13 hG hS => ?_)
        have k_ar : C11 re = .inl (E 5, cap, ar (va_up (fun j => if (j : Int) < k then none else f j) k.toNat (none))) := kk12
        have k_li : C11 rl = .inr (10, [.int (iI (mo + 1)), .ref ae, .int (iI 0)]) := (oo13 rl (by omega)).trans k_li
        have hOc : ∀ q, (q ≠ rl ∧ q ≠ re) → C11 q = C q := fun q hq => (oo13 q (by omega)).trans (hOc q hq)
        refine lv_iinc (v := iI (k + 1)) (lv' := [(3, .int (iI (k + 1))), (2, .int (iI n)), (1, .ref ae), (0, .ref al)]) hx hb dJ2_clear_36 hl (k := 0) rfl (iI_add _ _) (by decide) rfl (fun ls hl => ?_)
        refine lv_goto (tgt := 27) hx hb dJ2_clear_39 (by decide) ?_
        exact ih8 (k + 1) V ad C11 (by omega) v_li e_li k_li v_ar e_ar (by rw [k_ar, clr_s hk0]) hOc (by omega) (by omega) rfl rfl _ _ _ hG hS (lv_sub hl [0, 1, 2, 3] rfl)
  exact loop27_7 ((n - 0 : Int).toNat + 1) 0 V ad C4 (by omega) v_li e_li k_li v_ar e_ar (by rw [k_ar, clr_0]) hOc (by omega) (by omega) rfl rfl _ _ _ hG hS (lv_sub hl [0, 1, 2, 3] rfl)
theorem dJ0_init_0 : decode cJ0_init 0 = .ok (.aload_n 0, 1) := by decide +kernel
theorem dJ0_init_1 : decode cJ0_init 1 = .ok (.invokespecial 1, 3) := by decide +kernel
theorem dJ0_init_4 : decode cJ0_init 4 = .ok (.return_, 1) := by decide +kernel
set_option maxHeartbeats 4000000 in
theorem met_i0 (l : Launch) (adK adV st : Nat → Nat) (D : va_G) (E : Nat → ClassId) (A : Nat → Prop) (V : Nat → Prop) (ad : Nat → Nat) (C : Nat → va_E) (al : Nat) : AM l yJ0_init cJ0_init 1 none (amr 1 0 0) adK adV st D E A [.ref al] V ad C (AQv D E A (fun ad1 V1 C1 => ad = ad1 ∧ V = V1 ∧ C = C1)) 0 0 := by
  refine a_start (by decide) rfl (Nat.le_of_ble_eq_true rfl) ?_
  intro p e R s m args below meth c ls Q hR hQ hCK hml hr hlk hnme hG hS hE hA hl
  have hx := hCK.1
  have hb := hCK.2.1
  have hown := hCK.2.2.1
  have hts := hCK.2.2.2.1
  have hK := hCK.2.2.2.2
  have hl : lv_has ls 1 [(0, .ref al)] := hl
  refine lv_aload_n hx hb dJ0_init_0 rfl (lv_at hl 0 rfl) ?_
  refine a_oini hCK (hml.trans hl.1.symm) q111 q98 q99 (by rw [hR]; decide) (by rw [hR]; decide) dJ0_init_1 ?_
  exact a_vret hCK hQ hr hlk hG hS (by omega) (by omega) dJ0_init_4 (⟨rfl, rfl, rfl⟩)
theorem dJ1_init_0 : decode cJ1_init 0 = .ok (.aload_n 0, 1) := by decide +kernel
theorem dJ1_init_1 : decode cJ1_init 1 = .ok (.invokespecial 1, 3) := by decide +kernel
theorem dJ1_init_4 : decode cJ1_init 4 = .ok (.aload_n 0, 1) := by decide +kernel
theorem dJ1_init_5 : decode cJ1_init 5 = .ok (.iconst 0, 1) := by decide +kernel
theorem dJ1_init_6 : decode cJ1_init 6 = .ok (.putfield 7, 3) := by decide +kernel
theorem dJ1_init_9 : decode cJ1_init 9 = .ok (.return_, 1) := by decide +kernel
set_option maxHeartbeats 4000000 in
theorem met_i1 (l : Launch) (adK adV st : Nat → Nat) (D : va_G) (E : Nat → ClassId) (A : Nat → Prop) (V : Nat → Prop) (ad : Nat → Nat) (C : Nat → va_E) (rl al : Nat) (mo n : Int) (xv : Value) (v_li : V rl) (e_li : ad rl = al) (k_li : C rl = .inr (10, [.int (iI mo), xv, .int (iI n)])) : AM l yJ1_init cJ1_init 1 none (amr 2 0 0) adK adV st D E A [.ref al] V ad C (AQv D E A (fun ad1 V1 C1 => ad = ad1 ∧ V = V1 ∧ C1 rl = .inr (10, [.int (iI 0), xv, .int (iI n)]) ∧ ∀ q, q ≠ rl → C1 q = C q)) 0 0 := by
  refine a_start (by decide) rfl (Nat.le_of_ble_eq_true rfl) ?_
  intro p e R s m args below meth c ls Q hR hQ hCK hml hr hlk hnme hG hS hE hA hl
  have hx := hCK.1
  have hb := hCK.2.1
  have hown := hCK.2.2.1
  have hts := hCK.2.2.2.1
  have hK := hCK.2.2.2.2
  have hl : lv_has ls 1 [(0, .ref al)] := hl
  have hOc : ∀ q, (q ≠ rl) → C q = C q := fun _ _ => rfl
  refine lv_aload_n hx hb dJ1_init_0 rfl (lv_at hl 0 rfl) ?_
  refine a_callv (a_runI (n := 0) (b := al) (rest := []) (as := []) hCK hE hA hml (met_i0 l adK adV st D E A V ad C al) q108 q109 q69 q110 rfl (by decide +kernel) ⟨rfl, rfl⟩ hR ⟨Nat.le_of_ble_eq_true rfl, Nat.le_of_ble_eq_true rfl⟩ ⟨(by rw [hR]; show _ ≤ _; (try unfold amr); (try simp only []); omega), (by rw [hR]; show _ ≤ _; (try unfold amr); (try simp only []); omega)⟩ hG hS rfl hl.1 rfl (Nat.le_of_ble_eq_true rfl) dJ1_init_1) hS (fun ad2 V3 C4 H locs hp5 hG hS => ?_)
  obtain ⟨rfl, rfl, rfl⟩ := hp5
  refine lv_aload_n hx hb dJ1_init_4 rfl (lv_at hl 0 rfl) ?_
  refine r_iconst hx hb dJ1_init_5 ?_
  refine a_putS (ref := "java/util/AbstractList") (tyf := tyJ2) hCK hG hS rl e_li v_li k_li (ci := 10) rfl in_J2 tyJ2_ok nmJ2 0 (by decide) q118 (fun x h => h) rfl rfl rfl (Nat.le_of_ble_eq_true rfl) dJ1_init_6 (fun C6 H locs kk7 oo8 hG hS => ?_)
  have k_li : C6 rl = .inr (10, [.int (iI 0), xv, .int (iI n)]) := kk7
  have hOc : ∀ q, (q ≠ rl) → C6 q = C q := fun q hq => (oo8 q (by omega)).trans (hOc q hq)
  exact a_vret hCK hQ hr hlk hG hS (by omega) (by omega) dJ1_init_9 (⟨rfl, rfl, k_li, hOc⟩)
theorem dJ2_init_0 : decode cJ2_init 0 = .ok (.aload_n 0, 1) := by decide +kernel
theorem dJ2_init_1 : decode cJ2_init 1 = .ok (.invokespecial 1, 3) := by decide +kernel
theorem dJ2_init_4 : decode cJ2_init 4 = .ok (.iload_n 1, 1) := by decide +kernel
theorem dJ2_init_5 : decode cJ2_init 5 = .ok (.ifCond .le 14, 3) := by decide +kernel
theorem dJ2_init_8 : decode cJ2_init 8 = .ok (.aload_n 0, 1) := by decide +kernel
theorem dJ2_init_9 : decode cJ2_init 9 = .ok (.iload_n 1, 1) := by decide +kernel
theorem dJ2_init_10 : decode cJ2_init 10 = .ok (.anewarray 7, 3) := by decide +kernel
theorem dJ2_init_13 : decode cJ2_init 13 = .ok (.putfield 9, 3) := by decide +kernel
theorem dJ2_init_16 : decode cJ2_init 16 = .ok (.goto 44, 3) := by decide +kernel
theorem dJ2_init_60 : decode cJ2_init 60 = .ok (.return_, 1) := by decide +kernel
set_option maxHeartbeats 4000000 in
theorem met_linit (l : Launch) (adK adV st : Nat → Nat) (D : va_G) (E : Nat → ClassId) (A : Nat → Prop) (V : Nat → Prop) (ad : Nat → Nat) (C : Nat → va_E) (rl al : Nat) (mo n : Int)  (v_li : V rl) (e_li : ad rl = al) (k_li : C rl = .inr (10, [.int (iI mo), .null, .int (iI n)])) (re : Nat) (hne : rl ≠ re) (zn : Int) (cap : Nat) (hz : zn = (cap : Int)) (hcap : 1 ≤ cap ∧ cap ≤ 1000) : AM l yJ2_init cJ2_init 2 none (amr 3 1 cap) adK adV st D E A [.ref al, .int (iI zn)] V ad C (AQv D E A (fun ad1 V1 C1 => V1 = (fun q => V q ∨ q = re) ∧ C1 re = .inl (E 5, cap, ar (fun _ => none)) ∧ C1 rl = .inr (10, [.int (iI 0), .ref (ad1 re), .int (iI n)]) ∧ (∀ q, q ≠ re → ad1 q = ad q) ∧ ∀ q, q ≠ re → q ≠ rl → C1 q = C q)) 1 cap := by
  refine a_start (by decide) rfl (Nat.le_of_ble_eq_true rfl) ?_
  intro p e R s m args below meth c ls Q hR hQ hCK hml hr hlk hnme hG hS hE hA hl
  have hx := hCK.1
  have hb := hCK.2.1
  have hown := hCK.2.2.1
  have hts := hCK.2.2.2.1
  have hK := hCK.2.2.2.2
  have hl : lv_has ls 2 [(0, .ref al), (1, .int (iI zn))] := hl
  have hOa : ∀ q, (q ≠ re) → ad q = ad q := fun _ _ => rfl
  have hOc : ∀ q, (q ≠ re ∧ q ≠ rl) → C q = C q := fun _ _ => rfl
  refine lv_aload_n hx hb dJ2_init_0 rfl (lv_at hl 0 rfl) ?_
  refine a_callv (a_runI (n := 0) (b := al) (rest := []) (as := []) hCK hE hA hml (met_i1 l adK adV st D E A V ad C rl al mo n .null v_li e_li k_li) q105 q106 q70 q107 rfl (by decide +kernel) ⟨rfl, rfl⟩ hR ⟨Nat.le_of_ble_eq_true rfl, Nat.le_of_ble_eq_true rfl⟩ ⟨(by rw [hR]; show _ ≤ _; (try unfold amr); (try simp only []); omega), (by rw [hR]; show _ ≤ _; (try unfold amr); (try simp only []); omega)⟩ hG hS rfl hl.1 rfl (Nat.le_of_ble_eq_true rfl) dJ2_init_1) hS (fun ad2 V3 C4 H locs hp5 hG hS => ?_)
  obtain ⟨rfl, rfl, k_li, oo6⟩ := hp5
  have k_li : C4 rl = .inr (10, [.int (iI 0), .null, .int (iI n)]) := k_li
  have hOa : ∀ q, (q ≠ re) → ad q = ad q := hOa
  have hOc : ∀ q, (q ≠ re ∧ q ≠ rl) → C4 q = C q := fun q hq => (oo6 q (by omega)).trans (hOc q hq)
  refine lv_iload_n hx hb dJ2_init_4 rfl (lv_at hl 1 rfl) ?_
  refine r_if_le (tgt := 19) hx hb dJ2_init_5 (by decide) (by omega) (fun c7 => absurd c7 (by omega)) (fun c7 => ?_)
  refine lv_aload_n hx hb dJ2_init_8 rfl (lv_at hl 0 rfl) ?_
  refine lv_iload_n hx hb dJ2_init_9 rfl (lv_at hl 1 rfl) ?_
  refine a_anew (t := 5) (N := cap) hCK hG hS hA re q112 hE.2.2.2.2.2.1.1 rfl hz (by omega) (by rw [hR]; show _ ≤ _; (try unfold amr); (try simp only []); omega) (by rw [hR]; show _ ≤ _; (try unfold amr); (try simp only []); omega) dJ2_init_10 (fun x8 ad9 C10 H e_ar k_ar oo11 hG hS oh12 => ?_)
  obtain ⟨V13, hV13⟩ : ∃ X : Nat → Prop, X = fun q => V q ∨ q = re := ⟨_, rfl⟩
  rw [← hV13] at hG
  have v_li : V13 rl := by rw [hV13]; exact Or.inl v_li
  have e_li : ad9 rl = al := (oo11 rl (by omega)).1.trans e_li
  have k_li : C10 rl = .inr (10, [.int (iI 0), .null, .int (iI n)]) := (oo11 rl (by omega)).2.trans k_li
  have v_ar : V13 re := by rw [hV13]; exact Or.inr rfl
  have hOa : ∀ q, (q ≠ re) → ad9 q = ad q := fun q hq => (oo11 q (by omega)).1.trans (hOa q hq)
  have hOc : ∀ q, (q ≠ re ∧ q ≠ rl) → C10 q = C q := fun q hq => (oo11 q (by omega)).2.trans (hOc q hq)
  refine a_put (tyf := tyJ2) hCK hG hS rl e_li v_li k_li (ci := 10) rfl in_J2 tyJ2_ok nmJ2 1 (by decide) q116 rfl rfl rfl rfl (Nat.le_of_ble_eq_true rfl) dJ2_init_13 (fun C14 H locs kk15 oo16 hG hS => ?_)
  have k_li : C14 rl = .inr (10, [.int (iI 0), .ref x8, .int (iI n)]) := kk15
  have k_ar : C14 re = .inl (E 5, cap, ar (fun _ => none)) := (oo16 re (by omega)).trans k_ar
  have hOa : ∀ q, (q ≠ re) → ad9 q = ad q := hOa
  have hOc : ∀ q, (q ≠ re ∧ q ≠ rl) → C14 q = C q := fun q hq => (oo16 q (by omega)).trans (hOc q hq)
  refine lv_goto (tgt := 60) hx hb dJ2_init_16 (by decide) ?_
  exact a_vret hCK hQ hr hlk hG hS (by omega) (by omega) dJ2_init_60 (⟨hV13, k_ar, by rw [e_ar]; exact k_li, hOa, fun q h1 h2 => hOc q ⟨h1, h2⟩⟩)
