set_option maxRecDepth 100000
/-! CALLS that make no cells, at the worlds hC G S -/
abbrev CTi (G : GT) (l : Launch) (y : MethodName) (cc : ByteArray) (nL : Nat) (ret : Option FieldType) (d : Nat) (As : List Value) (N : Nat) (S : ST) (e : Int32) (S' : ST) : Prop := CT G l y cc nL ret d 0 0 As N (hC G S) (pI N (fun r h' => r = e ∧ h' = hC G S'))
abbrev CTv (G : GT) (l : Launch) (y : MethodName) (cc : ByteArray) (nL : Nat) (ret : Option FieldType) (d : Nat) (As : List Value) (N : Nat) (S : ST) (S' : ST) : Prop := CT G l y cc nL ret d 0 0 As N (hC G S) (pV N (fun h' => h' = hC G S'))
theorem pI_mk {N : Nat} {h : Nat → va_E} {v e : Int32} {h' : Nat → va_E} (e1 : v = e) (e2 : h = h') : pI N (fun r q => r = e ∧ q = h') (some (.int v)) N h := ⟨v, rfl, rfl, e1, e2⟩
theorem pV_mk {N : Nat} {h : Nat → va_E} {h' : Nat → va_E} (e2 : h = h') : pV N (fun q => q = h') none N h := ⟨rfl, rfl, e2⟩
theorem hC_c {G : GT} {S S' : ST} (e : S = S') : hC G S = hC G S' := by rw [e]
theorem bI_t {p : Prop} [Decidable p] (h : p) : nI 1 = bI p := by simp [bI, h]
theorem bI_f {p : Prop} [Decidable p] (h : ¬ p) : nI 0 = bI p := by simp [bI, h]
theorem bI_0 {p : Prop} [Decidable p] : bI p = 0 ↔ ¬ p := by
  unfold bI
  by_cases h : p
  · simp only [if_pos h, h, not_true_eq_false, iff_false]; decide
  · simp only [if_neg h, h, not_false_eq_true, iff_true]; rfl
theorem bI_nar {p : Prop} [Decidable p] : narrow .boolean (.int (bI p)) = .int (bI p) := by
  unfold bI
  split <;> rfl
theorem bI_c {p q : Prop} [Decidable p] [Decidable q] (h : p ↔ q) : bI p = bI q := by
  unfold bI
  by_cases hp : p
  · rw [if_pos hp, if_pos (h.mp hp)]
  · rw [if_neg hp, if_neg (fun z => hp (h.mpr z))]
section VC2
variable {G : GT} {x : VX} {own : String} {cc : ByteArray} {nL : Nat} {Q : State → Prop} {lv lv' : List (Nat × Value)} {st st0 : List Value} {N : Nat} {h : Nat → va_E} {S S' : ST} {a b : Nat} {pc : Nat}
theorem v_if_eqB {p : Prop} [Decidable p] {off : Int} (tgt : Nat) (hd : decode cc pc = .ok (.ifCond .eq off, 3)) (ht : (pc : Int) + off = (tgt : Int)) (kt : ¬ p → V G x own cc nL Q tgt lv st N h a b) (kf : p → V G x own cc nL Q (pc + 3) lv st N h a b) : V G x own cc nL Q pc lv (.int (bI p) :: st) N h a b := v_if_eq tgt hd ht (fun q => kt (bI_0.mp q)) (fun q => kf (Classical.not_not.mp fun z => q (bI_0.mpr z)))
theorem v_if_neB {p : Prop} [Decidable p] {off : Int} (tgt : Nat) (hd : decode cc pc = .ok (.ifCond .ne off, 3)) (ht : (pc : Int) + off = (tgt : Int)) (kt : p → V G x own cc nL Q tgt lv st N h a b) (kf : ¬ p → V G x own cc nL Q (pc + 3) lv st N h a b) : V G x own cc nL Q pc lv (.int (bI p) :: st) N h a b := v_if_ne tgt hd ht (fun q => kt (Classical.not_not.mp fun z => q (bI_0.mpr z))) (fun q => kf (bI_0.mp q))
theorem v_if_eqN {u : Nat} {off : Int} (tgt : Nat) (hu : u < 2 ^ 31) (hd : decode cc pc = .ok (.ifCond .eq off, 3)) (ht : (pc : Int) + off = (tgt : Int)) (kt : u = 0 → V G x own cc nL Q tgt lv st N h a b) (kf : ¬ u = 0 → V G x own cc nL Q (pc + 3) lv st N h a b) : V G x own cc nL Q pc lv (.int (nI u) :: st) N h a b := v_if_eq tgt hd ht (fun q => kt ((nI_eq hu (b := 0) (by decide)).mp q)) (fun q => kf fun z => q (by rw [z]; rfl))
theorem v_if_neN {u : Nat} {off : Int} (tgt : Nat) (hu : u < 2 ^ 31) (hd : decode cc pc = .ok (.ifCond .ne off, 3)) (ht : (pc : Int) + off = (tgt : Int)) (kt : ¬ u = 0 → V G x own cc nL Q tgt lv st N h a b) (kf : u = 0 → V G x own cc nL Q (pc + 3) lv st N h a b) : V G x own cc nL Q pc lv (.int (nI u) :: st) N h a b := v_if_ne tgt hd ht (fun q => kt fun z => q (by rw [z]; rfl)) (fun q => kf ((nI_eq hu (b := 0) (by decide)).mp q))
theorem v_if_leN {u : Nat} {off : Int} (tgt : Nat) (hu : u < 2 ^ 31) (hd : decode cc pc = .ok (.ifCond .le off, 3)) (ht : (pc : Int) + off = (tgt : Int)) (kt : u = 0 → V G x own cc nL Q tgt lv st N h a b) (kf : 0 < u → V G x own cc nL Q (pc + 3) lv st N h a b) : V G x own cc nL Q pc lv (.int (nI u) :: st) N h a b := v_if_le tgt hd ht (fun q => kt (Nat.le_zero.mp ((nI_leI (b := 0) hu (by decide)).mp q))) (fun q => kf (Nat.pos_of_ne_zero fun z => q (by rw [z]; decide)))
theorem v_if_gtN {u : Nat} {off : Int} (tgt : Nat) (hu : u < 2 ^ 31) (hd : decode cc pc = .ok (.ifCond .gt off, 3)) (ht : (pc : Int) + off = (tgt : Int)) (kt : 0 < u → V G x own cc nL Q tgt lv st N h a b) (kf : u = 0 → V G x own cc nL Q (pc + 3) lv st N h a b) : V G x own cc nL Q pc lv (.int (nI u) :: st) N h a b := v_if_gt tgt hd ht (fun q => kt ((nI_ltI (a := 0) (by decide) hu).mp q)) (fun q => kf (Nat.eq_zero_of_not_pos fun z => q ((nI_ltI (a := 0) (by decide) hu).mpr z)))
theorem v_if_ltN {u : Nat} {off : Int} (hu : u < 2 ^ 31) (hd : decode cc pc = .ok (.ifCond .lt off, 3)) (tgt : Nat) (ht : (pc : Int) + off = (tgt : Int)) (kf : V G x own cc nL Q (pc + 3) lv st N h a b) : V G x own cc nL Q pc lv (.int (nI u) :: st) N h a b := v_if_lt tgt hd ht (fun q => absurd q (nI_pos hu)) (fun _ => kf)
theorem v_if_geN {u : Nat} {off : Int} (tgt : Nat) (hu : u < 2 ^ 31) (hd : decode cc pc = .ok (.ifCond .ge off, 3)) (ht : (pc : Int) + off = (tgt : Int)) (kt : V G x own cc nL Q tgt lv st N h a b) : V G x own cc nL Q pc lv (.int (nI u) :: st) N h a b := v_if_ge tgt hd ht (fun _ => kt) (fun q => absurd (nI_pos' hu) q)
theorem c_callSi {y : MethodName} {bytes : ByteArray} {maxL d index n : Nat} {ret : Option FieldType} {As : List Value} {e : Int32} (hM : CTi G (xl x) y bytes maxL ret d As N S e S') (hV : GoodIn lw_all (va_wsS own index y (ws_ y bytes maxL ret))) (hd4 : y.cls ≠ "java/lang/invoke/MethodHandle" ∧ y.cls ≠ "java/lang/invoke/VarHandle" ∧ (parseMethodDescriptor y.desc).map (fun d => d.parameters.length) = some n)
    (hR : d + 1 ≤ (xR x).frames ∧ 8 + (maxL + 11) + 39 * d ≤ (xR x).locals) (hf : a ≤ (xR x).cells ∧ b ≤ (xR x).slots) (hn : As.length = n) (hst : st0 = As.reverse ++ st) (hrest : (st.map fun v => v.category).sum ≤ 8) (hdg : decode cc pc = .ok (.invokestatic index, 3))
    (kk : V G x own cc nL Q (pc + 3) lv (.int e :: st) N (hC G S') a b) : V G x own cc nL Q pc lv st0 N (hC G S) a b :=
  v_callS hM hV hd4 hR hf hn hst hrest hdg (fun v N' h' q => by obtain ⟨r, rfl, rfl, rfl, rfl⟩ := q; exact kk)
theorem c_callSv {y : MethodName} {bytes : ByteArray} {maxL d index n : Nat} {ret : Option FieldType} {As : List Value} (hM : CTv G (xl x) y bytes maxL ret d As N S S') (hV : GoodIn lw_all (va_wsS own index y (ws_ y bytes maxL ret))) (hd4 : y.cls ≠ "java/lang/invoke/MethodHandle" ∧ y.cls ≠ "java/lang/invoke/VarHandle" ∧ (parseMethodDescriptor y.desc).map (fun d => d.parameters.length) = some n)
    (hR : d + 1 ≤ (xR x).frames ∧ 8 + (maxL + 11) + 39 * d ≤ (xR x).locals) (hf : a ≤ (xR x).cells ∧ b ≤ (xR x).slots) (hn : As.length = n) (hst : st0 = As.reverse ++ st) (hrest : (st.map fun v => v.category).sum ≤ 8) (hdg : decode cc pc = .ok (.invokestatic index, 3))
    (kk : V G x own cc nL Q (pc + 3) lv st N (hC G S') a b) : V G x own cc nL Q pc lv st0 N (hC G S) a b :=
  v_callS hM hV hd4 hR hf hn hst hrest hdg (fun v N' h' q => by obtain ⟨rfl, rfl, rfl⟩ := q; exact kk)
theorem c_callVi {y : MethodName} {bytes : ByteArray} {maxL d index n kb ci : Nat} {ret : Option FieldType} {C : String} {r : vw_C} {fs As : List Value} {e : Int32} (hM : CTi G (xl x) y bytes maxL ret d (.ref (gZ G + kb) :: As) N S e S') (hV : GoodIn lw_all (wsV own index C y (ws_ y bytes maxL ret))) (hd4 : y.cls = C ∧ y.cls ≠ "java/lang/invoke/MethodHandle" ∧ y.cls ≠ "java/lang/invoke/VarHandle" ∧ (parseMethodDescriptor y.desc).map (fun d => d.parameters.length) = some n)
    (hR : d + 1 ≤ (xR x).frames ∧ 8 + (maxL + 11) + 39 * d ≤ (xR x).locals) (hf : a ≤ (xR x).cells ∧ b ≤ (xR x).slots) (hkb : kb < N) (he : hC G S kb = .inr (ci, fs)) (hc : clX[ci]? = some r) (hrC : r.1 = C) (hn : As.length = n) (hst : st0 = As.reverse ++ .ref (gZ G + kb) :: st) (hrest : (st.map fun v => v.category).sum ≤ 8) (hdg : decode cc pc = .ok (.invokevirtual index, 3))
    (kk : V G x own cc nL Q (pc + 3) lv (.int e :: st) N (hC G S') a b) : V G x own cc nL Q pc lv st0 N (hC G S) a b :=
  v_callV hM hV hd4 hR hf hkb he hc hrC hn hst hrest hdg (fun v N' h' q => by obtain ⟨r, rfl, rfl, rfl, rfl⟩ := q; exact kk)
theorem c_callVv {y : MethodName} {bytes : ByteArray} {maxL d index n kb ci : Nat} {ret : Option FieldType} {C : String} {r : vw_C} {fs As : List Value} (hM : CTv G (xl x) y bytes maxL ret d (.ref (gZ G + kb) :: As) N S S') (hV : GoodIn lw_all (wsV own index C y (ws_ y bytes maxL ret))) (hd4 : y.cls = C ∧ y.cls ≠ "java/lang/invoke/MethodHandle" ∧ y.cls ≠ "java/lang/invoke/VarHandle" ∧ (parseMethodDescriptor y.desc).map (fun d => d.parameters.length) = some n)
    (hR : d + 1 ≤ (xR x).frames ∧ 8 + (maxL + 11) + 39 * d ≤ (xR x).locals) (hf : a ≤ (xR x).cells ∧ b ≤ (xR x).slots) (hkb : kb < N) (he : hC G S kb = .inr (ci, fs)) (hc : clX[ci]? = some r) (hrC : r.1 = C) (hn : As.length = n) (hst : st0 = As.reverse ++ .ref (gZ G + kb) :: st) (hrest : (st.map fun v => v.category).sum ≤ 8) (hdg : decode cc pc = .ok (.invokevirtual index, 3))
    (kk : V G x own cc nL Q (pc + 3) lv st N (hC G S') a b) : V G x own cc nL Q pc lv st0 N (hC G S) a b :=
  v_callV hM hV hd4 hR hf hkb he hc hrC hn hst hrest hdg (fun v N' h' q => by obtain ⟨rfl, rfl, rfl⟩ := q; exact kk)
end VC2
theorem v_S {G : GT} {x : VX} {own : String} {cc : ByteArray} {nL : Nat} {Q : State → Prop} {lv : List (Nat × Value)} {st : List Value} {N : Nat} {S S' : ST} {a b : Nat} {pc : Nat} (e : S = S') (kk : V G x own cc nL Q pc lv st N (hC G S') a b) : V G x own cc nL Q pc lv st N (hC G S) a b := by subst e; exact kk
theorem s2_s1 (S : ST) (k : Nat) (f : Nat → Int32) (j : Nat) (v : Int32) : s2 (s1 S k f) k j v = s1 S k (upd f j v) := by
  unfold s2
  rw [s1_at, s1_s1]
def nn (v : Int32) : Nat := v.toNatClampNeg
def inN (v : Int32) (n : Nat) : Prop := v = nI (nn v) ∧ nn v ≤ n
theorem nn_nI {n : Nat} (h : n < 2 ^ 31) : nn (nI n) = n := nI_clamp h
theorem inN_nI {m n : Nat} (h : m ≤ n) (hn : n < 2 ^ 31) : inN (nI m) n := by
  unfold inN
  rw [nn_nI (by omega)]
  exact ⟨rfl, h⟩
theorem inN.of {v : Int32} {m n : Nat} (e : v = nI m) (h : m ≤ n) (hn : n < 2 ^ 31) : inN v n := by rw [e]; exact inN_nI h hn
theorem v_lv {G : GT} {x : VX} {own : String} {cc : ByteArray} {nL : Nat} {Q : State → Prop} {lv lv' : List (Nat × Value)} {st : List Value} {N : Nat} {h : Nat → va_E} {a b : Nat} {pc : Nat} (e : lv = lv') (kk : V G x own cc nL Q pc lv' st N h a b) : V G x own cc nL Q pc lv st N h a b := by subst e; exact kk
