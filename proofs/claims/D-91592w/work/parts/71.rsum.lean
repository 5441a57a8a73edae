/-! THE READER: sum -/
set_option maxRecDepth 100000

def LV (off dn : Nat) : Nat := 12 + 6 * (8 - dn) + off
theorem amr_ok {d d' a b a' b' mL : Nat} (h : d + 1 ≤ d') (hm : mL ≤ 40) : (amr d a b).frames + 1 ≤ (amr d' a' b').frames ∧ 8 + (mL + 11) + (amr d a b).locals ≤ (amr d' a' b').locals := by
  unfold amr
  simp only []
  omega
def gPost (E : Nat → ClassId) (adK : Nat → Nat) (x : Int → Int) (n : Int) (V : Nat → Prop) (ad : Nat → Nat) (C : Nat → va_E) (cap b0 : Nat) (all : List (Int × Int)) (r : PR) : Int → (Nat → Nat) → (Nat → Prop) → (Nat → va_E) → Prop := fun z ad1 V1 C1 => (if r.1 = true then 1 else 0) = z ∧ (∃ vl1 mo1, RD E adK x n V1 ad1 C1 (kC x n r.2.1) (tF x n r.2.1) (tT x n r.2.1) vl1 (if r.1 = true then -1 else tF x n r.2.1) mo1 (cpN r.2.2.length cap (all.length - b0)) b0 (all ++ r.2.2) ∧ numAt x n r.2.1 vl1) ∧ OT all.length V ad C V1 ad1 C1
def GM (l : Launch) (adK adV st : Nat → Nat) (D : va_G) (E : Nat → ClassId) (A : Nat → Prop) (x : Int → Int) (n : Int) (y : MethodName) (bytes : ByteArray) (maxL off : Nat) (s fs : Int) (f : Nat) : Prop :=
  ∀ (V : Nat → Prop) (ad : Nat → Nat) (C : Nat → va_E) (p vl mo : Int) (cap b0 : Nat) (all : List (Int × Int)) (dn : Nat), dn ≤ 8 → RD E adK x n V ad C (kC x n p) (tF x n p) (tT x n p) vl (-1) mo cap b0 all → numAt x n p vl → (0 ≤ p ∧ p ≤ n) → 8 * (n - p) + fs < (f : Int) → (all.length : Int) ≤ p →
    AM l y bytes maxL (some .boolean) (amr (LV off dn) (csN (ps x n f s (dn : Int) p).2.2.length cap (all.length - b0)) (slN (ps x n f s (dn : Int) p).2.2.length cap (all.length - b0))) adK adV st D E A [.ref (ad 6000), .int (iI (dn : Int))] V ad C (AQi D E A (gPost E adK x n V ad C cap b0 all (ps x n f s (dn : Int) p))) (csN (ps x n f s (dn : Int) p).2.2.length cap (all.length - b0)) (slN (ps x n f s (dn : Int) p).2.2.length cap (all.length - b0))
theorem tB {x : Int → Int} {n p : Int} (hp : 0 ≤ p ∧ p ≤ n) : (0 ≤ tF x n p ∧ tF x n p ≤ n) ∧ (p ≤ tF x n p ∧ tF x n p ≤ tT x n p ∧ tT x n p ≤ n) ∧ (tK x n p ≠ 0 → p + 1 ≤ tT x n p) := by
  have h1 := tF_bd x hp.2
  have h2 := tT_bd x hp.2
  refine ⟨by omega, by omega, fun h => ?_⟩
  have := tK_n0 h
  omega
theorem lv1 {d off dn : Nat} (h : d + 1 ≤ 12 + off) : d + 1 ≤ LV off dn := by unfold LV; omega
theorem lv2 {o1 o2 dn : Nat} (h : o1 < o2) : LV o1 dn + 1 ≤ LV o2 dn := by unfold LV; omega
theorem lv3 {o1 o2 dn : Nat} (h : o1 ≤ o2 + 5) (hd : dn < 8) : LV o1 (dn + 1) + 1 ≤ LV o2 dn := by unfold LV; omega
theorem kC_R (x : Int → Int) (n p : Int) : R32 (kC x n p) := by have := kC_bd x n p; omega
theorem tBT {x : Int → Int} {n p : Int} (hp : 0 ≤ p ∧ p ≤ n) : 0 ≤ tT x n p ∧ tT x n p ≤ n := by have := tB (x := x) hp; omega
theorem tBF {x : Int → Int} {n p : Int} (hp : 0 ≤ p ∧ p ≤ n) : 0 ≤ tF x n p ∧ tF x n p ≤ tT x n p ∧ tT x n p ≤ n := by have := tB (x := x) hp; omega
theorem tFR {x : Int → Int} {n p : Int} (hn : n ≤ 300) (hp : 0 ≤ p ∧ p ≤ n) : R32 (tF x n p) := by have := tB (x := x) hp; omega
theorem hal_t {x : Int → Int} {n p a : Int} (hp : 0 ≤ p ∧ p ≤ n) (h : a ≤ p) : a ≤ tT x n p := by have := tB (x := x) hp; omega
theorem hal_2 {L a : Nat} {p q : Int} (h : (L : Int) ≤ p) (h1 : (a : Int) ≤ q - p) : ((L + a : Nat) : Int) ≤ q := by omega
theorem ml_s {f2 nd : Nat} (h : ((f2 + 1 : Nat) : Int) < ((nd + 1 : Nat) : Int)) : (f2 : Int) < (nd : Int) := by omega
theorem cp_step {cap1 c len b0 mk : Nat} (h : (len < b0 + c ∧ cap1 = c) ∨ (len = b0 + c ∧ cap1 = c + c / 2)) (hl : len = b0 + mk) : cap1 = if mk = c then c + c / 2 else c := by
  split <;> omega
theorem hal_g {L b0 m0 ol al : Nat} {p1 q t : Int} (h0 : (L : Int) ≤ p1) (hL : L = b0 + (m0 + ol)) (h6 : (al : Int) ≤ q - t) (h7 : p1 + 1 ≤ t) : ((b0 + (m0 + (ol + al)) + 1 : Nat) : Int) ≤ q := by omega
theorem fu_s {n p1 q t : Int} {f2 g : Nat} (h : 8 * (n - p1) < ((f2 + 1 : Nat) : Int) ∧ f2 + 1 ≤ g) (h7 : p1 + 1 ≤ t) (h8 : t ≤ q) : 8 * (n - q) < (f2 : Int) ∧ f2 ≤ g := by omega
theorem fu_c {n p1 t c : Int} {f2 g : Nat} (h : 8 * (n - p1) < ((f2 + 1 : Nat) : Int) ∧ f2 + 1 ≤ g) (h7 : p1 + 1 ≤ t) (hc : c ≤ 6) : 8 * (n - t) + c < (f2 : Int) := by omega
theorem hgr_l {L b0 c : Nat} {q n : Int} (h : (L : Int) ≤ q) (h1 : q ≤ n) (h2 : n ≤ 300) : L = b0 + c → c + c / 2 ≤ 600 := by omega
theorem hpm_l {L b0 mk c : Nat} (hl : L = b0 + mk) : L = b0 + c → 1 ≤ (if mk = c then 1 else 0) ∧ c + c / 2 ≤ (if mk = c then c + c / 2 else 0) := by
  intro q
  have e : mk = c := by omega
  rw [if_pos e, if_pos e]
  exact ⟨Nat.le_refl _, Nat.le_refl _⟩
theorem le2 {a x t : Nat} (h : a + 2 + x ≤ t) : a + 1 ≤ t := by omega
theorem le3 {a x t : Nat} (h : a + 2 + x ≤ t) : a + 1 + 0 + x ≤ t := by omega
theorem le4 {a x : Nat} : a + 1 + 0 + x ≤ a + 2 + x := by omega
theorem ll3 {A O B b0 m0 : Nat} (hb : b0 ≤ A) (hm : m0 = A - b0) : A + O + B = b0 + (m0 + (O + B)) := by omega
theorem ll2 {A O b0 m0 : Nat} (hb : b0 ≤ A) (hm : m0 = A - b0) : A + O = b0 + (m0 + O) := by omega
theorem ll2s {A O b0 m0 : Nat} (hb : b0 ≤ A) (hm : m0 = A - b0) : A + O - b0 = m0 + O := by omega
theorem sq_len (a : PR) (k : Int → PR) : a.2.2.length ≤ (sq a k).2.2.length := by
  unfold sq
  split
  · show _ ≤ (a.2.2 ++ _).length
    rw [List.length_append]
    omega
  · exact Nat.le_refl _
theorem sq_y {a : PR} {k : Int → PR} (h : a.1 = true) : sq a k = ((k a.2.1).1, (k a.2.1).2.1, a.2.2 ++ (k a.2.1).2.2) := if_pos h
theorem sq_n {a : PR} {k : Int → PR} (h : ¬ a.1 = true) : sq a k = a := if_neg h
theorem bf {a : PR} (h : ¬ a.1 = true) : a = (false, a.2.1, a.2.2) := by
  obtain ⟨b, q⟩ := a
  cases b
  · rfl
  · exact absurd rfl h
theorem sgE (d : Int) (hd : d ≠ 0 ∧ d ≠ 1) : mkE d 0 = .inr (7, [.int (iI (sgO d))]) := by
  unfold mkE
  rw [if_neg hd.1, if_neg hd.2]
theorem dX9_sum_0 : decode cX9_sum 0 = .ok (.aload_n 0, 1) := by decide +kernel
theorem dX9_sum_1 : decode cX9_sum 1 = .ok (.iload_n 1, 1) := by decide +kernel
theorem dX9_sum_2 : decode cX9_sum 2 = .ok (.invokevirtual 112, 3) := by decide +kernel
theorem dX9_sum_5 : decode cX9_sum 5 = .ok (.istore_n 2, 1) := by decide +kernel
theorem dX9_sum_6 : decode cX9_sum 6 = .ok (.iload_n 2, 1) := by decide +kernel
theorem dX9_sum_7 : decode cX9_sum 7 = .ok (.ifCond .eq 62, 3) := by decide +kernel
theorem dX9_sum_10 : decode cX9_sum 10 = .ok (.aload_n 0, 1) := by decide +kernel
theorem dX9_sum_11 : decode cX9_sum 11 = .ok (.getfield 70, 3) := by decide +kernel
theorem dX9_sum_14 : decode cX9_sum 14 = .ok (.bipush 43, 2) := by decide +kernel
theorem dX9_sum_16 : decode cX9_sum 16 = .ok (.if_icmp .eq 12, 3) := by decide +kernel
theorem dX9_sum_19 : decode cX9_sum 19 = .ok (.aload_n 0, 1) := by decide +kernel
theorem dX9_sum_20 : decode cX9_sum 20 = .ok (.getfield 70, 3) := by decide +kernel
theorem dX9_sum_23 : decode cX9_sum 23 = .ok (.bipush 45, 2) := by decide +kernel
theorem dX9_sum_25 : decode cX9_sum 25 = .ok (.if_icmp .ne 44, 3) := by decide +kernel
theorem dX9_sum_28 : decode cX9_sum 28 = .ok (.aload_n 0, 1) := by decide +kernel
theorem dX9_sum_29 : decode cX9_sum 29 = .ok (.getfield 70, 3) := by decide +kernel
theorem dX9_sum_32 : decode cX9_sum 32 = .ok (.istore_n 3, 1) := by decide +kernel
theorem dX9_sum_33 : decode cX9_sum 33 = .ok (.aload_n 0, 1) := by decide +kernel
theorem dX9_sum_34 : decode cX9_sum 34 = .ok (.invokevirtual 105, 3) := by decide +kernel
theorem dX9_sum_37 : decode cX9_sum 37 = .ok (.aload_n 0, 1) := by decide +kernel
theorem dX9_sum_38 : decode cX9_sum 38 = .ok (.iload_n 1, 1) := by decide +kernel
theorem dX9_sum_39 : decode cX9_sum 39 = .ok (.invokevirtual 112, 3) := by decide +kernel
theorem dX9_sum_42 : decode cX9_sum 42 = .ok (.ifCond .eq 22, 3) := by decide +kernel
theorem dX9_sum_45 : decode cX9_sum 45 = .ok (.aload_n 0, 1) := by decide +kernel
theorem dX9_sum_46 : decode cX9_sum 46 = .ok (.new 116, 3) := by decide +kernel
theorem dX9_sum_49 : decode cX9_sum 49 = .ok (.dup, 1) := by decide +kernel
theorem dX9_sum_50 : decode cX9_sum 50 = .ok (.iload_n 3, 1) := by decide +kernel
theorem dX9_sum_51 : decode cX9_sum 51 = .ok (.invokespecial 118, 3) := by decide +kernel
theorem dX9_sum_54 : decode cX9_sum 54 = .ok (.invokevirtual 119, 3) := by decide +kernel
theorem dX9_sum_57 : decode cX9_sum 57 = .ok (.ifCond .eq 7, 3) := by decide +kernel
theorem dX9_sum_60 : decode cX9_sum 60 = .ok (.iconst 1, 1) := by decide +kernel
theorem dX9_sum_61 : decode cX9_sum 61 = .ok (.goto 4, 3) := by decide +kernel
theorem dX9_sum_64 : decode cX9_sum 64 = .ok (.iconst 0, 1) := by decide +kernel
theorem dX9_sum_65 : decode cX9_sum 65 = .ok (.istore_n 2, 1) := by decide +kernel
theorem dX9_sum_66 : decode cX9_sum 66 = .ok (.goto (-60), 3) := by decide +kernel
theorem dX9_sum_69 : decode cX9_sum 69 = .ok (.iload_n 2, 1) := by decide +kernel
theorem dX9_sum_70 : decode cX9_sum 70 = .ok (.ireturn, 1) := by decide +kernel
set_option maxHeartbeats 4000000 in
theorem met_sum (l : Launch) (adK adV st : Nat → Nat) (D : va_G) (E : Nat → ClassId) (A : Nat → Prop) (x : Int → Int) (n : Int) (hn : 0 ≤ n ∧ n ≤ 300) (hbx : Bd x 300 (-128) 127) (f : Nat) (ih_product : ∀ f1, f1 < f → GM l adK adV st D E A x n yX9_product cX9_product 4 1 3 2 f1) : GM l adK adV st D E A x n yX9_sum cX9_sum 4 2 1 3 f := by
  intro V ad C p vl mo cap b0 all dn hd hRD hNA hp hf hal
  obtain ⟨g, rfl⟩ : ∃ g, f = g + 1 := ⟨f - 1, by omega⟩
  obtain ⟨Rz, eR⟩ : ∃ R, R = ps x n (g + 1) 1 (dn : Int) p := ⟨_, rfl⟩
  rw [← eR]
  rw [ps_1] at eR
  have hb0 := hRD.2.2.2.2.2.2.2.2.1
  obtain ⟨m0, hm0⟩ : ∃ m, m = all.length - b0 := ⟨_, rfl⟩
  rw [← hm0]
  refine a_start (by decide) rfl (Nat.le_of_ble_eq_true rfl) ?_
  intro pp e R s m args below meth c ls Q hR hQ hCK hml hr hlk hnme hG hS hE hA hl
  have hx := hCK.1
  have hb := hCK.2.1
  have hown := hCK.2.2.1
  have hts := hCK.2.2.2.1
  have hK := hCK.2.2.2.2
  have hl : lv_has ls 4 [(0, .ref (ad 6000)), (1, .int (iI (dn : Int)))] := hl
  have hOT : OT all.length V ad C V ad C := OT.rf
  have htb := tB (x := x) hp
  have v_rd : V 6000 := hRD.2.1.1
  have k_rd : C 6000 = .inr (8, [.ref (ad 6001), .ref (ad 6002), .ref (ad 1), .int (iI n), .ref (ad 6003), .ref (ad 6005), .int (iI (kC x n p)), .int (iI (tF x n p)), .int (iI (tT x n p)), .int (iI vl), .int (iI (-1))]) := hRD.2.1.2
  have e_rd : ad 6000 = ad 6000 := (hOT 6000 (Or.inl (by decide))).1
  have v_tx : V 1 := hRD.1.1
  have k_tx : C 1 = .inl (E 1, 300, ai x) := hRD.1.2
  refine lv_aload_n hx hb dX9_sum_0 rfl (lv_at hl 0 rfl) ?_
  refine lv_iload_n hx hb dX9_sum_1 rfl (lv_at hl 1 rfl) ?_
  obtain ⟨a0, e_a0⟩ : ∃ a, a = ps x n (g) 3 ((dn : Nat) : Int) (p) := ⟨_, rfl⟩
  have l_a0 := ps_len x n (g) 3 ((dn : Nat) : Int) (p) hp.2
  rw [← e_a0] at l_a0
  have hM := ih_product (g) (by omega) V ad C (p) vl mo cap b0 (all) (dn) hd hRD hNA hp (by omega) hal
  rw [← e_a0, e_rd] at hM
  have h_mt : (all).length - b0 = m0 := by first | exact hm0.symm | (rw [List.length_append]; exact ll2s hb0 hm0)
  rw [h_mt] at hM
  rw [← e_a0] at eR
  have hRl0 : a0.2.2.length ≤ Rz.2.2.length := by rw [eR]; exact sq_len _ _
  have hq0 := csN_le cap m0 hRl0
  refine a_calli (a_runV (n := 1) (C0 := RX9) (b := (ad 6000)) (rest := []) (as := [.int (iI (dn : Int))]) hCK hE hA hml (hM) (by have h := g_rec (r := 6000) (ci := 8) hK hG v_rd rfl k_rd; rw [e_rd] at h; exact h) q590 q592 qs15 q86 q593 (by decide +kernel) ⟨rfl, rfl⟩ hR (amr_ok (lv2 (by decide)) (by decide)) ⟨(by rw [hR]; exact (show 0 + _ ≤ _ from by rw [Nat.zero_add]; exact hq0.1)), (by rw [hR]; exact (show 0 + _ ≤ _ from by rw [Nat.zero_add]; exact hq0.2))⟩ hG hS rfl hl.1 rfl (Nat.le_of_ble_eq_true rfl) dX9_sum_2) hS (fun z1 ad2 V3 C4 H locs hp5 hG hS => ?_)
  obtain ⟨rfl, ⟨vl6, mo7, hRD, hNA⟩, hot9⟩ := hp5
  have hOT := hOT.tr hot9 (by first | exact Nat.le_refl _ | (rw [List.length_append]; exact Nat.le_add_right _ _) | (rw [List.length_append, List.length_append]; exact Nat.le_trans (Nat.le_add_right _ _) (Nat.le_add_right _ _)))
  rw [h_mt] at hRD
  have hp : 0 ≤ a0.2.1 ∧ a0.2.1 ≤ n := ⟨Int.le_trans hp.1 l_a0.1.1, l_a0.1.2⟩
  have htb := tB (x := x) hp
  have hal : (((all ++ a0.2.2).length : Nat) : Int) ≤ a0.2.1 := by rw [List.length_append]; exact hal_2 hal l_a0.2
  refine W.eq (g2 := F0 m 5 ls [.int (iI (if a0.1 = true then 1 else 0))]) rfl ?_
  refine W.widen (k := csN (a0.2.2.length) cap m0) (n := slN (a0.2.2.length) cap m0) (by omega) (by omega) ?_
  refine lv_istore_n (lv' := [(2, .int (iI (if a0.1 = true then 1 else 0))), (0, .ref (ad 6000)), (1, .int (iI (dn : Int)))]) hx hb dX9_sum_5 rfl hl (by decide) rfl (fun ls hl => ?_)
  have ezz : (if a0.1 = true then (1 : Int) else 0) = 0 ∨ (if a0.1 = true then (1 : Int) else 0) = 1 := by split <;> simp
  have ehR : RD E adK x n V3 ad2 C4 (kC x n a0.2.1) (tF x n a0.2.1) (tT x n a0.2.1) vl6 (if (if a0.1 = true then (1 : Int) else 0) = 1 then -1 else tF x n a0.2.1) mo7 (cpN a0.2.2.length cap m0) b0 (all ++ a0.2.2) := by
    by_cases q : a0.1 = true
    · rw [if_pos q] at hRD; rw [if_pos q, if_pos rfl]; exact hRD
    · rw [if_neg q] at hRD; rw [if_neg q, if_neg (by decide)]; exact hRD
  have ehc1 : (if a0.1 = true then (1 : Int) else 0) = 1 → Rz = ((ps x n g 2 (dn : Int) a0.2.1).1, (ps x n g 2 (dn : Int) a0.2.1).2.1, a0.2.2 ++ (ps x n g 2 (dn : Int) a0.2.1).2.2) := by
    intro h
    by_cases q : a0.1 = true
    · rw [eR, sq_y q]
    · rw [if_neg q] at h; exact absurd h (by decide)
  have ehc0 : (if a0.1 = true then (1 : Int) else 0) = 0 → Rz = (false, a0.2.1, a0.2.2) := by
    intro h
    by_cases q : a0.1 = true
    · rw [if_pos q] at h; exact absurd h (by decide)
    · rw [eR, sq_n q]; exact bf q
  have loop6_8 : ∀ (nd : Nat) (zf : Int) (p1 : Int) (o : List (Int × Int)) (fu : Nat) (vl1 : Int) (mo1 : Int) (Vg : Nat → Prop) (adg : Nat → Nat) (Cg : Nat → va_E), (fu : Int) < (nd : Int) → (zf = 0 ∨ zf = 1) → (zf = 1 → Rz = ((ps x n fu 2 (dn : Int) p1).1, (ps x n fu 2 (dn : Int) p1).2.1, o ++ (ps x n fu 2 (dn : Int) p1).2.2)) → (zf = 0 → Rz = (false, p1, o)) → (8 * (n - p1) < (fu : Int) ∧ fu ≤ g) → (RD E adK x n Vg adg Cg (kC x n p1) (tF x n p1) (tT x n p1) vl1 (if zf = 1 then -1 else tF x n p1) mo1 (cpN o.length cap m0) b0 (all ++ o)) → (numAt x n p1 vl1) → (OT all.length V ad C Vg adg Cg) → (0 ≤ p1 ∧ p1 ≤ n) → ((((all ++ o).length : Nat) : Int) ≤ p1) → ∀ (H : Heap) (locs : List Loc) (ls : Array Slot), GW D A Vg adg Cg H → va_S A s.heap H locs → lv_has ls 4 [(2, .int (iI zf)), (0, .ref (ad 6000)), (1, .int (iI (dn : Int)))] → W pp l e R s m args below meth c H locs (csN o.length cap m0) (slN o.length cap m0) Q (F0 m 6 ls []) := by
    intro nd
    induction nd with
    | zero => intro zf p1 o fu vl1 mo1 Vg adg Cg hn10 hz hc1 hc0 hfu hRD hNA hOT hp hal; exfalso; omega
    | succ nd ih9 =>
      intro zf p1 o fu vl1 mo1 Vg adg Cg hn10 hz hc1 hc0 hfu hRD hNA hOT hp hal H locs ls hG hS hl
      clear hq0 hRl0 l_a0 ehc1 ehc0 ezz ehR
      have htb := tB (x := x) hp
      have v_rd : Vg 6000 := hRD.2.1.1
      have k_rd : Cg 6000 = .inr (8, [.ref (adg 6001), .ref (adg 6002), .ref (adg 1), .int (iI n), .ref (adg 6003), .ref (adg 6005), .int (iI (kC x n p1)), .int (iI (tF x n p1)), .int (iI (tT x n p1)), .int (iI vl1), .int (iI (if zf = 1 then -1 else tF x n p1))]) := hRD.2.1.2
      have e_rd : adg 6000 = ad 6000 := (hOT 6000 (Or.inl (by decide))).1
      have v_tx : Vg 1 := hRD.1.1
      have k_tx : Cg 1 = .inl (E 1, 300, ai x) := hRD.1.2
      refine lv_iload_n hx hb dX9_sum_6 rfl (lv_at hl 0 rfl) ?_
      refine r_if_eq (tgt := 69) hx hb dX9_sum_7 (by decide) (by omega) (fun cz => ?_) (fun cz => ?_)
      · have e0 := hc0 cz
        refine lv_iload_n hx hb dX9_sum_69 rfl (lv_at hl 0 rfl) ?_
        exact a_zret hCK hQ hr hlk hG hS (by rw [e0]; exact Nat.le_refl _) (by rw [e0]; exact Nat.le_refl _) (by omega) dX9_sum_70 (⟨by rw [e0]; show (if (false = true) then (1 : Int) else 0) = zf; rw [if_neg (by decide)]; exact cz.symm, ⟨vl1, mo1, by rw [e0]; rw [if_neg (by rw [cz]; decide)] at hRD; rw [← hm0]; exact hRD, by rw [e0]; exact hNA⟩, hOT⟩)
      · have ez : zf = 1 := hz.resolve_left cz
        have hal0 := hal
        have htb1 := htb
        subst ez
        have e1 := hc1 rfl
        have hRlo : o.length ≤ Rz.2.2.length := by rw [e1]; show _ ≤ (o ++ _).length; rw [List.length_append]; omega
        have hqo := csN_le cap m0 hRlo
        rw [if_pos rfl] at hRD
        obtain ⟨f2, rfl⟩ : ∃ f2, fu = f2 + 1 := ⟨fu - 1, by omega⟩
        rw [ps_2] at e1
        have hl : lv_has ls 4 [(2, .int (iI 1)), (0, .ref (ad 6000)), (1, .int (iI (dn : Int)))] := hl
        have v_rd : Vg 6000 := hRD.2.1.1
        have k_rd : Cg 6000 = .inr (8, [.ref (adg 6001), .ref (adg 6002), .ref (adg 1), .int (iI n), .ref (adg 6003), .ref (adg 6005), .int (iI (kC x n p1)), .int (iI (tF x n p1)), .int (iI (tT x n p1)), .int (iI vl1), .int (iI (-1))]) := hRD.2.1.2
        have e_rd : adg 6000 = ad 6000 := (hOT 6000 (Or.inl (by decide))).1
        have v_tx : Vg 1 := hRD.1.1
        have k_tx : Cg 1 = .inl (E 1, 300, ai x) := hRD.1.2
        have hkc := kC_cases x n p1
        refine lv_aload_n hx hb dX9_sum_10 rfl (lv_at hl 1 rfl) ?_
        refine a_get hCK hG 6000 e_rd v_rd k_rd (ci := 8) rfl in_X9 6 (by decide) q330 rfl rfl dX9_sum_11 ?_
        refine W.eq (g2 := F0 m 14 ls [.int (iI (kC x n p1))]) rfl ?_
        refine r_bipush hx hb dX9_sum_14 (by decide) ?_
        have hop : (tK x n p1 = 3 ∧ (tV x n p1 = 43 ∨ tV x n p1 = 45)) → W pp l e R s m args below meth c H locs (csN o.length cap m0) (slN o.length cap m0) Q (F0 m 28 ls []) := by
          intro hyes
          have hyes : tK x n p1 = 3 ∧ (tV x n p1 = 43 ∨ tV x n p1 = 45) := hyes
          rw [if_pos hyes] at e1
          have htk : tK x n p1 ≠ 0 := by rw [hyes.1]; decide
          have hl7 := htb1.2.2 htk
          have hk2 : (kC x n p1 = 43 ∧ tV x n p1 = 43) ∨ (kC x n p1 = 45 ∧ tV x n p1 = 45) := by omega
          clear hkc
          clear hyes
          refine lv_aload_n hx hb dX9_sum_28 rfl (lv_at hl 1 rfl) ?_
          refine a_get hCK hG 6000 e_rd v_rd k_rd (ci := 8) rfl in_X9 6 (by decide) q330 rfl rfl dX9_sum_29 ?_
          refine W.eq (g2 := F0 m 32 ls [.int (iI (kC x n p1))]) rfl ?_
          refine lv_istore_n (lv' := [(3, .int (iI (kC x n p1))), (2, .int (iI 1)), (0, .ref (ad 6000)), (1, .int (iI (dn : Int)))]) hx hb dX9_sum_32 rfl hl (by decide) rfl (fun ls hl => ?_)
          refine lv_aload_n hx hb dX9_sum_33 rfl (lv_at hl 2 rfl) ?_
          have hM := met_rnext l adK adV st D E A Vg adg Cg x n (kC x n p1) (tF x n p1) (tT x n p1) vl1 (-1) hn hbx v_rd k_rd v_tx k_tx (tBT hp)
          rw [e_rd] at hM
          refine a_callv (a_runV (n := 0) (C0 := RX9) (b := (ad 6000)) (rest := []) (as := []) hCK hE hA hml (hM) (by have h := g_rec (r := 6000) (ci := 8) hK hG v_rd rfl k_rd; rw [e_rd] at h; exact h) q363 q365 qs1 q86 q366 (by decide +kernel) ⟨rfl, rfl⟩ hR (amr_ok (lv1 (by decide)) (by decide)) ⟨(by rw [hR]; exact hqo.1), (by rw [hR]; exact hqo.2)⟩ hG hS rfl hl.1 rfl (Nat.le_of_ble_eq_true rfl) dX9_sum_34) hS (fun ad12 V13 C14 H locs hp15 hG hS => ?_)
          obtain ⟨rfl, rfl, ⟨vl16, k9, hNA⟩, o9⟩ := hp15
          have hRD := hRD.tok k9 o9
          have hOT := hOT.set o9
          have hal : (((all ++ o).length : Nat) : Int) ≤ tT x n p1 := hal_t hp hal
          have hp : 0 ≤ tT x n p1 ∧ tT x n p1 ≤ n := tBT hp
          have htb := tB (x := x) hp
          have v_rd : Vg 6000 := hRD.2.1.1
          have k_rd : C14 6000 = .inr (8, [.ref (adg 6001), .ref (adg 6002), .ref (adg 1), .int (iI n), .ref (adg 6003), .ref (adg 6005), .int (iI (kC x n (tT x n p1))), .int (iI (tF x n (tT x n p1))), .int (iI (tT x n (tT x n p1))), .int (iI vl16), .int (iI (-1))]) := hRD.2.1.2
          have e_rd : adg 6000 = ad 6000 := (hOT 6000 (Or.inl (by decide))).1
          have v_tx : Vg 1 := hRD.1.1
          have k_tx : C14 1 = .inl (E 1, 300, ai x) := hRD.1.2
          refine lv_aload_n hx hb dX9_sum_37 rfl (lv_at hl 2 rfl) ?_
          refine lv_iload_n hx hb dX9_sum_38 rfl (lv_at hl 3 rfl) ?_
          obtain ⟨a1, e_a1⟩ : ∃ a, a = ps x n (f2) 3 ((dn : Nat) : Int) (tT x n p1) := ⟨_, rfl⟩
          have l_a1 := ps_len x n (f2) 3 ((dn : Nat) : Int) (tT x n p1) hp.2
          rw [← e_a1] at l_a1
          have hM := ih_product (f2) (Nat.lt_succ_of_le (Nat.le_of_succ_le hfu.2)) Vg adg C14 (tT x n p1) vl16 mo1 (cpN o.length cap m0) b0 (all ++ o) (dn) hd hRD hNA hp (fu_c hfu hl7 (by decide)) hal
          rw [← e_a1, e_rd] at hM
          have h_mt : (all ++ o).length - b0 = m0 + o.length := by first | exact hm0.symm | (rw [List.length_append]; exact ll2s hb0 hm0)
          rw [h_mt] at hM
          rw [← e_a1] at e1
          have hRl1 : o.length + a1.2.2.length ≤ Rz.2.2.length := by
            rw [e1]
            have h1 := sq_len a1 (fun p1_ => (true, p1_, [((if tV x n p1 = 43 then 2 else 3), (0 : Int))]))
            have h2 := sq_len (sq a1 (fun p1_ => (true, p1_, [((if tV x n p1 = 43 then 2 else 3), (0 : Int))]))) (fun p1_ => ps x n f2 2 (dn : Int) p1_)
            show _ ≤ (o ++ _).length
            rw [List.length_append]
            exact Nat.add_le_add_left (Nat.le_trans h1 h2) _
          have hq1 := csN_le cap m0 hRl1
          rw [csN_add, slN_add] at hq1
          refine a_calli (a_runV (n := 1) (C0 := RX9) (b := (ad 6000)) (rest := []) (as := [.int (iI (dn : Int))]) hCK hE hA hml (hM) (by have h := g_rec (r := 6000) (ci := 8) hK hG v_rd rfl k_rd; rw [e_rd] at h; exact h) q590 q592 qs15 q86 q593 (by decide +kernel) ⟨rfl, rfl⟩ hR (amr_ok (lv2 (by decide)) (by decide)) ⟨(by rw [hR]; exact hq1.1), (by rw [hR]; exact hq1.2)⟩ hG hS rfl hl.1 rfl (Nat.le_of_ble_eq_true rfl) dX9_sum_39) hS (fun z17 ad18 V19 C20 H locs hp21 hG hS => ?_)
          obtain ⟨rfl, ⟨vl22, mo23, hRD, hNA⟩, hot9⟩ := hp21
          have hOT := hOT.tr hot9 (by first | exact Nat.le_refl _ | (rw [List.length_append]; exact Nat.le_add_right _ _) | (rw [List.length_append, List.length_append]; exact Nat.le_trans (Nat.le_add_right _ _) (Nat.le_add_right _ _)))
          rw [h_mt] at hRD
          have hp : 0 ≤ a1.2.1 ∧ a1.2.1 ≤ n := ⟨Int.le_trans hp.1 l_a1.1.1, l_a1.1.2⟩
          have htb := tB (x := x) hp
          have hal : (((all ++ o ++ a1.2.2).length : Nat) : Int) ≤ a1.2.1 := by rw [List.length_append]; exact hal_2 hal l_a1.2
          refine W.eq (g2 := F0 m 42 ls [.int (iI (if a1.1 = true then 1 else 0))]) rfl ?_
          refine W.widen (k := csN (o.length + a1.2.2.length) cap m0) (n := slN (o.length + a1.2.2.length) cap m0) (by rw [csN_add]; exact Nat.le_refl _) (by rw [slN_add]; exact Nat.le_refl _) ?_
          rw [← cpN_add] at hRD
          refine r_ifeqB (tgt := 64) hx hb dX9_sum_42 (by decide) (fun ca => ?_) (fun ca => ?_)
          · have e1 : Rz = (false, a1.2.1, o ++ a1.2.2) := by rw [e1, sq_n (k := fun p1 => (true, p1, [(_, (0 : Int))])) ca, sq_n ca, bf ca]
            refine r_iconst hx hb dX9_sum_64 ?_
            refine lv_istore_n (lv' := [(2, .int (iI 0)), (3, .int (iI (kC x n p1))), (0, .ref (ad 6000)), (1, .int (iI (dn : Int)))]) hx hb dX9_sum_65 rfl hl (by decide) rfl (fun ls hl => ?_)
            refine lv_goto (tgt := 6) hx hb dX9_sum_66 (by decide) ?_
            refine W.cs (cells' := csN (o ++ a1.2.2).length cap m0) (slots' := slN (o ++ a1.2.2).length cap m0) (by rw [List.length_append]) (by rw [List.length_append]) ?_
            exact ih9 0 a1.2.1 (o ++ a1.2.2) f2 vl22 mo23 V19 ad18 C20 (ml_s hn10)  (Or.inl rfl) (fun h => absurd h (by decide)) (fun _ => e1) (fu_s hfu hl7 l_a1.1.1) (by rw [if_neg ca] at hRD; rw [if_neg (by decide), List.length_append, ← List.append_assoc]; exact hRD) hNA hOT hp (by rw [← List.append_assoc]; exact hal) _ _ _ hG hS (lv_sub hl [0, 2, 3] rfl)
          · rw [if_pos ca] at hRD
            have e1 : Rz = ((ps x n f2 2 (dn : Int) a1.2.1).1, (ps x n f2 2 (dn : Int) a1.2.1).2.1, (o ++ a1.2.2 ++ [(if tV x n p1 = 43 then 2 else 3, 0)]) ++ (ps x n f2 2 (dn : Int) a1.2.1).2.2) := by
              rw [e1, sq_y (a := a1) ca, sq_y (by rfl)]
              simp only [List.append_assoc]
            have hRl2 : o.length + a1.2.2.length + 1 ≤ Rz.2.2.length := by
              have h9 := congrArg (fun r : PR => r.2.2.length) e1
              simp only [List.length_append, List.length_cons, List.length_nil] at h9
              rw [h9]
              exact Nat.le_add_right _ _
            have hq2 := csN_le cap m0 hRl2
            have hst := csN_1 (o.length + a1.2.2.length) cap m0
            rw [hst.1, hst.2.1] at hq2
            have v_rd : V19 6000 := hRD.2.1.1
            have k_rd : C20 6000 = .inr (8, [.ref (ad18 6001), .ref (ad18 6002), .ref (ad18 1), .int (iI n), .ref (ad18 6003), .ref (ad18 6005), .int (iI (kC x n a1.2.1)), .int (iI (tF x n a1.2.1)), .int (iI (tT x n a1.2.1)), .int (iI vl22), .int (iI (-1))]) := hRD.2.1.2
            have e_rd : ad18 6000 = ad 6000 := (hOT 6000 (Or.inl (by decide))).1
            have v_tx : V19 1 := hRD.1.1
            have k_tx : C20 1 = .inl (E 1, 300, ai x) := hRD.1.2
            have hll : (all ++ o ++ a1.2.2).length = b0 + (m0 + (o.length + a1.2.2.length)) := by rw [List.length_append, List.length_append]; exact ll3 hb0 hm0
            have hgr9 := hgr_l (b0 := b0) (c := cpN (o.length + a1.2.2.length) cap m0) hal hp.2 hn.2
            have hpm9 := hpm_l (c := cpN (o.length + a1.2.2.length) cap m0) hll
            have hr1 := Nat.le_trans (Nat.le_add_right _ _) hq2.1
            have hr2 := le2 hq2.2
            have hr4 := le3 hq2.2
            have hOa : ∀ q, (q ≠ 7000 + (all ++ o ++ a1.2.2).length) → ad18 q = ad18 q := fun _ _ => rfl
            have hOc : ∀ q, (q ≠ 7000 + (all ++ o ++ a1.2.2).length) → C20 q = C20 q := fun _ _ => rfl
            have e_rd0 := e_rd
            have hnl : 6000 ≠ 7000 + (all ++ o ++ a1.2.2).length := by omega
            refine lv_aload_n hx hb dX9_sum_45 rfl (lv_at hl 2 rfl) ?_
            refine a_new (ci := 7) (fs := [.int (iI 0)]) tyX8 hCK hG hS hA (7000 + (all ++ o ++ a1.2.2).length) in_X8 tyX8_ok q515 q516 q85 rfl (by decide) (by rw [hR]; exact hr1) (by rw [hR]; exact hr2) dX9_sum_46 (fun x24 ad25 C26 H e_it k_it oo29 hG hS oh30 => ?_)
            obtain ⟨V31, hV31⟩ : ∃ X : Nat → Prop, X = fun q => V19 q ∨ q = 7000 + (all ++ o ++ a1.2.2).length := ⟨_, rfl⟩
            rw [← hV31] at hG
            have v_rd : V31 6000 := by rw [hV31]; exact Or.inl v_rd
            have e_rd : ad25 6000 = (ad 6000) := (oo29 6000 (by first | exact hq | exact hnl)).1.trans e_rd
            have k_rd : C26 6000 = .inr (8, [.ref (ad18 6001), .ref (ad18 6002), .ref (ad18 1), .int (iI n), .ref (ad18 6003), .ref (ad18 6005), .int (iI (kC x n a1.2.1)), .int (iI (tF x n a1.2.1)), .int (iI (tT x n a1.2.1)), .int (iI vl22), .int (iI (-1))]) := (oo29 6000 (by first | exact hq | exact hnl)).2.trans k_rd
            have v_it : V31 (7000 + (all ++ o ++ a1.2.2).length) := by rw [hV31]; exact Or.inr rfl
            have hOa : ∀ q, (q ≠ 7000 + (all ++ o ++ a1.2.2).length) → ad25 q = ad18 q := fun q hq => (oo29 q (by first | exact hq | exact hnl)).1.trans (hOa q hq)
            have hOc : ∀ q, (q ≠ 7000 + (all ++ o ++ a1.2.2).length) → C26 q = C20 q := fun q hq => (oo29 q (by first | exact hq | exact hnl)).2.trans (hOc q hq)
            refine lv_dup hx hb dX9_sum_49 rfl ?_
            refine lv_iload_n hx hb dX9_sum_50 rfl (lv_at hl 0 rfl) ?_
            refine a_callv (a_runI (n := 1) (b := x24) (rest := [.ref x24, .ref (ad 6000)]) (as := [.int (iI (kC x n p1))]) hCK hE hA hml (met_xi8 l adK adV st D E A V31 ad25 C26 (7000 + (all ++ o ++ a1.2.2).length) x24 (kC x n p1) v_it e_it k_it) q517 q518 q85 q519 rfl (by decide +kernel) ⟨rfl, rfl⟩ hR (amr_ok (lv1 (by decide)) (by decide)) ⟨(by rw [hR]; exact hr1), (by rw [hR]; exact hr2)⟩ hG hS rfl hl.1 rfl (Nat.le_of_ble_eq_true rfl) dX9_sum_51) hS (fun ad33 V34 C35 H locs hp36 hG hS => ?_)
            obtain ⟨rfl, rfl, kk38, oo37⟩ := hp36
            have k_it : C35 (7000 + (all ++ o ++ a1.2.2).length) = .inr (7, [.int (iI (kC x n p1))]) := kk38
            have k_rd : C35 6000 = .inr (8, [.ref (ad18 6001), .ref (ad18 6002), .ref (ad18 1), .int (iI n), .ref (ad18 6003), .ref (ad18 6005), .int (iI (kC x n a1.2.1)), .int (iI (tF x n a1.2.1)), .int (iI (tT x n a1.2.1)), .int (iI vl22), .int (iI (-1))]) := (oo37 6000 (by first | exact hq | exact hnl)).trans k_rd
            have hOa : ∀ q, (q ≠ 7000 + (all ++ o ++ a1.2.2).length) → ad25 q = ad18 q := hOa
            have hOc : ∀ q, (q ≠ 7000 + (all ++ o ++ a1.2.2).length) → C35 q = C20 q := fun q hq => (oo37 q (by first | exact hq | exact hnl)).trans (hOc q hq)
            have hmk : C35 (7000 + (all ++ o ++ a1.2.2).length) = mkE (if tV x n p1 = 43 then 2 else 3) 0 := by
              rw [k_it]
              rcases hk2 with q | q
              · rw [if_pos q.2, q.1]; rfl
              · rw [if_neg (by rw [q.2]; decide), q.1]; rfl
            have hM := met_puts l adK adV st D E A V31 ad25 C35 V19 ad18 C20 x n (kC x n a1.2.1) (tF x n a1.2.1) (tT x n a1.2.1) vl22 (-1) mo23 (cpN (o.length + a1.2.2.length) cap m0) b0 (all ++ o ++ a1.2.2) (if tV x n p1 = 43 then 2 else 3) 0 x24 hRD hV31 (fun q hq => ⟨hOa q hq, hOc q hq⟩) hmk e_it hgr9 (if m0 + (o.length + a1.2.2.length) = cpN (o.length + a1.2.2.length) cap m0 then 1 else 0) (if m0 + (o.length + a1.2.2.length) = cpN (o.length + a1.2.2.length) cap m0 then cpN (o.length + a1.2.2.length) cap m0 + cpN (o.length + a1.2.2.length) cap m0 / 2 else 0) hpm9
            rw [e_rd0] at hM
            refine a_calli (a_runV (n := 1) (C0 := RX9) (b := (ad 6000)) (rest := []) (as := [.ref x24]) hCK hE hA hml (hM) (by have h := g_rec (r := 6000) (ci := 8) hK hG v_rd rfl k_rd; rw [e_rd] at h; exact h) q528 q530 qs10 q86 q531 (by decide +kernel) ⟨rfl, rfl⟩ hR (amr_ok (lv1 (by decide)) (by decide)) ⟨(by rw [hR]; exact hq2.1), (by rw [hR]; exact hr4)⟩ hG hS rfl hl.1 rfl (Nat.le_of_ble_eq_true rfl) dX9_sum_54) hS (fun z39 ad40 V41 C42 H locs hp43 hG hS => ?_)
            obtain ⟨rfl, mo44, cap45, hcp9, hRD, hot9⟩ := hp43
            have hOT := hOT.tr hot9 (by first | exact Nat.le_refl _ | (rw [List.length_append]; exact Nat.le_add_right _ _) | (rw [List.length_append, List.length_append]; exact Nat.le_trans (Nat.le_add_right _ _) (Nat.le_add_right _ _)))
            refine W.eq (g2 := F0 m 57 ls [.int (iI 1)]) rfl ?_
            have v_rd : V41 6000 := hRD.2.1.1
            have k_rd : C42 6000 = .inr (8, [.ref (ad40 6001), .ref (ad40 6002), .ref (ad40 1), .int (iI n), .ref (ad40 6003), .ref (ad40 6005), .int (iI (kC x n a1.2.1)), .int (iI (tF x n a1.2.1)), .int (iI (tT x n a1.2.1)), .int (iI vl22), .int (iI (-1))]) := hRD.2.1.2
            have e_rd : ad40 6000 = ad 6000 := (hOT 6000 (Or.inl (by decide))).1
            have v_tx : V41 1 := hRD.1.1
            have k_tx : C42 1 = .inl (E 1, 300, ai x) := hRD.1.2
            refine W.widen (k := csN (o.length + a1.2.2.length + 1) cap m0) (n := slN (o.length + a1.2.2.length + 1) cap m0) (by rw [hst.1]; exact Nat.le_refl _) (by rw [hst.2.1]; exact le4) ?_
            have hcp : cap45 = cpN (o.length + a1.2.2.length + 1) cap m0 := (cp_step hcp9 hll).trans hst.2.2.symm
            rw [hcp] at hRD
            clear hcp9
            refine r_if_eq (tgt := 64) hx hb dX9_sum_57 (by decide) (by decide) (fun c46 => absurd c46 (by decide)) (fun c46 => ?_)
            refine r_iconst hx hb dX9_sum_60 ?_
            refine lv_goto (tgt := 65) hx hb dX9_sum_61 (by decide) ?_
            refine lv_istore_n (lv' := [(2, .int (iI 1)), (3, .int (iI (kC x n p1))), (0, .ref (ad 6000)), (1, .int (iI (dn : Int)))]) hx hb dX9_sum_65 rfl hl (by decide) rfl (fun ls hl => ?_)
            refine lv_goto (tgt := 6) hx hb dX9_sum_66 (by decide) ?_
            have hl3 : (o ++ a1.2.2 ++ [((if tV x n p1 = 43 then 2 else 3 : Int), (0 : Int))]).length = o.length + a1.2.2.length + 1 := by simp [List.length_append, Nat.add_assoc]
            have hl4 : all ++ (o ++ a1.2.2 ++ [((if tV x n p1 = 43 then 2 else 3 : Int), (0 : Int))]) = all ++ o ++ a1.2.2 ++ [((if tV x n p1 = 43 then 2 else 3 : Int), (0 : Int))] := by simp only [List.append_assoc]
            have hl5 : (all ++ o).length = b0 + (m0 + o.length) := by rw [List.length_append]; exact ll2 hb0 hm0
            refine W.cs (cells' := csN (o ++ a1.2.2 ++ [((if tV x n p1 = 43 then 2 else 3 : Int), (0 : Int))]).length cap m0) (slots' := slN (o ++ a1.2.2 ++ [((if tV x n p1 = 43 then 2 else 3 : Int), (0 : Int))]).length cap m0) (by rw [hl3]) (by rw [hl3]) ?_
            exact ih9 1 a1.2.1 (o ++ a1.2.2 ++ [(if tV x n p1 = 43 then 2 else 3, 0)]) f2 vl22 mo44 V41 ad40 C42 (ml_s hn10)  (Or.inr rfl) (fun _ => e1) (fun h => absurd h (by decide)) (fu_s hfu hl7 l_a1.1.1) (by rw [if_pos rfl, hl3, hl4]; exact hRD) hNA hOT hp (by rw [hl4, List.length_append, hll]; exact hal_g hal0 hl5 l_a1.2 hl7) _ _ _ hG hS (lv_sub hl [0, 2, 3] rfl)
        refine r_icmp_eq (tgt := 28) hx hb dX9_sum_16 (by decide) (kC_R _ _ _) (by decide) (fun c47 => ?_) (fun c47 => ?_)
        · exact hop (by omega)
        · refine lv_aload_n hx hb dX9_sum_19 rfl (lv_at hl 1 rfl) ?_
          refine a_get hCK hG 6000 e_rd v_rd k_rd (ci := 8) rfl in_X9 6 (by decide) q330 rfl rfl dX9_sum_20 ?_
          refine W.eq (g2 := F0 m 23 ls [.int (iI (kC x n p1))]) rfl ?_
          refine r_bipush hx hb dX9_sum_23 (by decide) ?_
          refine r_icmp_ne (tgt := 69) hx hb dX9_sum_25 (by decide) (kC_R _ _ _) (by decide) (fun c48 => ?_) (fun c48 => ?_)
          · have hno : ¬ (tK x n p1 = 3 ∧ (tV x n p1 = 43 ∨ tV x n p1 = 45)) := (by omega)
            rw [if_neg hno] at e1
            have e1 : Rz = (true, p1, o) := by rw [e1]; show (true, p1, o ++ []) = _; rw [List.append_nil]
            refine lv_iload_n hx hb dX9_sum_69 rfl (lv_at hl 0 rfl) ?_
            exact a_zret hCK hQ hr hlk hG hS (by rw [e1]; exact Nat.le_refl _) (by rw [e1]; exact Nat.le_refl _) (by decide) dX9_sum_70 (⟨by rw [e1]; rfl, ⟨vl1, mo1, by rw [e1, ← hm0]; exact hRD, by rw [e1]; exact hNA⟩, hOT⟩)
          · exact hop (by omega)
  exact loop6_8 (g + 1) (if a0.1 = true then 1 else 0) a0.2.1 a0.2.2 g vl6 mo7 V3 ad2 C4 (by omega)  ezz ehc1 ehc0 (by have := l_a0.1; omega) ehR hNA hOT hp hal _ _ _ hG hS (lv_sub hl [0, 1, 2] rfl)
