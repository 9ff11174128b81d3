set_option maxRecDepth 100000
/-! DEQUES: the cell k (its ints: 1 head, 2 tail), its elements k + 1 by codes -/
def DR (k n : Nat) : Prop := DC k ∧ ∀ (G : GT) (f : Nat → Int32), cO G (k + 1) f = dqR G n f
def DI (k n : Nat) : Prop := DC k ∧ ∀ (G : GT) (f : Nat → Int32), cO G (k + 1) f = dqI G n f
theorem DR_111 : DR 111 15 := ⟨fun _ _ => rfl, fun _ _ => rfl⟩
theorem DR_113 : DR 113 15 := ⟨fun _ _ => rfl, fun _ _ => rfl⟩
theorem DI_53 : DI 53 17 := ⟨fun _ _ => rfl, fun _ _ => rfl⟩
def dinc (i n : Nat) : Nat := if i + 1 < n then i + 1 else 0
def ddec (i n : Nat) : Nat := if i = 0 then n - 1 else i - 1
def dsub (i j n : Nat) : Nat := if j ≤ i then i - j else i + n - j
theorem dec1p {i : Nat} (h : 0 < i) : nI i + Int32.ofInt (-1) = nI (i - 1) := by
  obtain ⟨m, rfl⟩ : ∃ m, i = m + 1 := ⟨i - 1, by omega⟩
  exact dec1 m
theorem dinc_lt {i n : Nat} (h : 0 < n) : dinc i n < n := by unfold dinc; split <;> omega
theorem ddec_lt {i n : Nat} (h : i < n) : ddec i n < n := by unfold ddec; split <;> omega
theorem nI_s0 {b : Nat} (h : b + 1 < 2 ^ 31) : ¬ nI (b + 1) = 0 := nI_ne0 (by omega) h
abbrev CTa (G : GT) (l : Launch) (y : MethodName) (cc : ByteArray) (nL : Nat) (ret : Option FieldType) (d : Nat) (As : List Value) (N : Nat) (S : ST) (e : Value) (S' : ST) : Prop := CT G l y cc nL ret d 0 0 As N (hC G S) (pA N (fun r h' => r = e ∧ h' = hC G S'))
theorem pA_mk {N : Nat} {h : Nat → va_E} {v e : Value} {h' : Nat → va_E} (e1 : v = e) (e2 : h = h') : pA N (fun r q => r = e ∧ q = h') (some v) N h := ⟨v, rfl, rfl, e1, e2⟩
section VD
variable {G : GT} {x : VX} {own : String} {cc : ByteArray} {nL : Nat} {Q : State → Prop} {lv lv' : List (Nat × Value)} {st st0 : List Value} {N : Nat} {S S' : ST} {a b pc : Nat}
theorem c_aaldR {k n j c : Nat} {i : Int32} (hk : DR k n) (hN : k + 1 < N) (hi : i = nI j) (hj : j < n) (hn : n < 2 ^ 31) (hv : S (k + 1) j = nI (c + 1)) (hc : c + 1 < 2 ^ 31) (hd : decode cc pc = .ok (.aaload, 1)) (kk : V G x own cc nL Q (pc + 1) lv (.ref (gZ G + c) :: st) N (hC G S) a b) : V G x own cc nL Q pc lv (.int i :: .ref (gZ G + (k + 1)) :: st) N (hC G S) a b :=
  v_aald (t0 := 5) rfl hN (hk.2 G (S (k + 1))) hi hj hn (by rw [hv, if_neg (nI_s0 hc), nI_clamp hc]; rfl) hd kk
theorem c_aaldI {k n j c : Nat} {i : Int32} (hk : DI k n) (hN : k + 1 < N) (hi : i = nI j) (hj : j < n) (hn : n < 2 ^ 31) (hv : S (k + 1) j = nI (c + 1)) (hc : c + 1 < 2 ^ 31) (hd : decode cc pc = .ok (.aaload, 1)) (kk : V G x own cc nL Q (pc + 1) lv (.ref (gI G (c + 128)) :: st) N (hC G S) a b) : V G x own cc nL Q pc lv (.int i :: .ref (gZ G + (k + 1)) :: st) N (hC G S) a b :=
  v_aald (t0 := 5) rfl hN (hk.2 G (S (k + 1))) hi hj hn (by rw [hv, if_neg (nI_s0 hc), nI_clamp hc]; rfl) hd kk
theorem dq_ext {c n : Nat} {g h : Nat → Option Nat} (e : ∀ q, g q = h q) : (Sum.inl (c, n, .inr (.inr (.inr (.inr g)))) : va_E) = .inl (c, n, .inr (.inr (.inr (.inr h)))) := by
  have := funext e
  rw [this]
theorem dqR_up {G : GT} {n j c : Nat} {f : Nat → Int32} (hc : c + 1 < 2 ^ 31) : dqR G n (upd f j (nI (c + 1))) = .inl (gA G 5, n, .inr (.inr (.inr (.inr (va_up (fun j => if f j = 0 then none else some (gZ G + ((f j).toNatClampNeg - 1))) j (some (gZ G + c))))))) := by
  refine dq_ext (fun q => ?_)
  unfold va_up upd
  by_cases h : q = j
  · rw [if_pos h, if_pos h, if_neg (nI_s0 hc), nI_clamp hc]; rfl
  · rw [if_neg h, if_neg h]
theorem dqR_up0 {G : GT} {n j : Nat} {f : Nat → Int32} : dqR G n (upd f j (nI 0)) = .inl (gA G 5, n, .inr (.inr (.inr (.inr (va_up (fun j => if f j = 0 then none else some (gZ G + ((f j).toNatClampNeg - 1))) j none))))) := by
  refine dq_ext (fun q => ?_)
  unfold va_up upd
  by_cases h : q = j
  · rw [if_pos h, if_pos h]; rfl
  · rw [if_neg h, if_neg h]
theorem dqI_up {G : GT} {n j c : Nat} {f : Nat → Int32} (hc : c + 1 < 2 ^ 31) : dqI G n (upd f j (nI (c + 1))) = .inl (gA G 5, n, .inr (.inr (.inr (.inr (va_up (fun j => if f j = 0 then none else some (gI G ((f j).toNatClampNeg + 127))) j (some (gI G (c + 128)))))))) := by
  refine dq_ext (fun q => ?_)
  unfold va_up upd
  by_cases h : q = j
  · rw [if_pos h, if_pos h, if_neg (nI_s0 hc), nI_clamp hc]
  · rw [if_neg h, if_neg h]
theorem dqI_up0 {G : GT} {n j : Nat} {f : Nat → Int32} : dqI G n (upd f j (nI 0)) = .inl (gA G 5, n, .inr (.inr (.inr (.inr (va_up (fun j => if f j = 0 then none else some (gI G ((f j).toNatClampNeg + 127))) j none))))) := by
  refine dq_ext (fun q => ?_)
  unfold va_up upd
  by_cases h : q = j
  · rw [if_pos h, if_pos h]; rfl
  · rw [if_neg h, if_neg h]
theorem c_aastR {k n j c : Nat} {i : Int32} (hk : DR k n) (hN : k + 1 < N) (hi : i = nI j) (hj : j < n) (hn : n < 2 ^ 31) (hc : RB c) (hcN : c < N) (hd : decode cc pc = .ok (.aastore, 1)) (kk : V G x own cc nL Q (pc + 1) lv st N (hC G (s2 S (k + 1) j (nI (c + 1)))) a b) : V G x own cc nL Q pc lv (.ref (gZ G + c) :: .int i :: .ref (gZ G + (k + 1)) :: st) N (hC G S) a b := by
  have hle := hc.le
  refine v_aast (t0 := 5) (C := "ScopeTasks$Run") rfl hN (hk.2 G (S (k + 1))) hi hj hn (fun C H locs w s => va_recv (ci := 2) C.2.2.1 w.2 rfl (hp_e hcN (hC_run (j := 0) hc (by decide) rfl))) (fun comp c0 hNw h1 h2 => vb_asgC (hNw _ q1247 rfl) comp c0 h1 h2) hd (v_eq rfl rfl ?_ kk)
  exact hC_s1 (f := upd (S (k + 1)) j (nI (c + 1))) ((hk.2 G _).trans (dqR_up (by omega)))
theorem c_aastI {k n j c : Nat} {i : Int32} (hk : DI k n) (hN : k + 1 < N) (hi : i = nI j) (hj : j < n) (hn : n < 2 ^ 31) (hc : c < 128) (hd : decode cc pc = .ok (.aastore, 1)) (kk : V G x own cc nL Q (pc + 1) lv st N (hC G (s2 S (k + 1) j (nI (c + 1)))) a b) : V G x own cc nL Q pc lv (.ref (gI G (c + 128)) :: .int i :: .ref (gZ G + (k + 1)) :: st) N (hC G S) a b := by
  refine v_aast (t0 := 5) (C := "java/lang/Integer") rfl hN (hk.2 G (S (k + 1))) hi hj hn (fun C H locs w s => ?_) (fun comp c0 hNw h1 h2 => vb_asgC (hNw _ q1255 rfl) comp c0 h1 h2) hd (v_eq rfl rfl ?_ kk)
  · obtain ⟨cell, g1, g2, g3, g4⟩ := C.2.2.2.2.2.1.2.2.2.2.1.1 (c + 128) (by omega)
    have hlt : gI G (c + 128) < (xs x).heap.size := (Array.getElem?_eq_some_iff.mp g1).1
    exact ⟨cell, by rw [s.2.1 _ hlt g4]; exact g1, g2, g3⟩
  · exact hC_s1 (f := upd (S (k + 1)) j (nI (c + 1))) ((hk.2 G _).trans (dqI_up (by omega)))
theorem c_aastR0 {k n j : Nat} {i : Int32} (hk : DR k n) (hN : k + 1 < N) (hi : i = nI j) (hj : j < n) (hn : n < 2 ^ 31) (hd : decode cc pc = .ok (.aastore, 1)) (kk : V G x own cc nL Q (pc + 1) lv st N (hC G (s2 S (k + 1) j (nI 0))) a b) : V G x own cc nL Q pc lv (.null :: .int i :: .ref (gZ G + (k + 1)) :: st) N (hC G S) a b :=
  v_aastN (t0 := 5) rfl hN (hk.2 G (S (k + 1))) hi hj hn hd (v_eq rfl rfl (hC_s1 (f := upd (S (k + 1)) j (nI 0)) ((hk.2 G _).trans dqR_up0)) kk)
theorem c_aastI0 {k n j : Nat} {i : Int32} (hk : DI k n) (hN : k + 1 < N) (hi : i = nI j) (hj : j < n) (hn : n < 2 ^ 31) (hd : decode cc pc = .ok (.aastore, 1)) (kk : V G x own cc nL Q (pc + 1) lv st N (hC G (s2 S (k + 1) j (nI 0))) a b) : V G x own cc nL Q pc lv (.null :: .int i :: .ref (gZ G + (k + 1)) :: st) N (hC G S) a b :=
  v_aastN (t0 := 5) rfl hN (hk.2 G (S (k + 1))) hi hj hn hd (v_eq rfl rfl (hC_s1 (f := upd (S (k + 1)) j (nI 0)) ((hk.2 G _).trans dqI_up0)) kk)
theorem c_callSa {y : MethodName} {bytes : ByteArray} {maxL d index n : Nat} {ret : Option FieldType} {As : List Value} {e : Value} (hM : CTa G (xl x) y bytes maxL ret d As N S e S') (hV : GoodIn lw_all (va_wsS own index y (ws_ y bytes maxL ret))) (hd4 : y.cls ≠ "java/lang/invoke/MethodHandle" ∧ y.cls ≠ "java/lang/invoke/VarHandle" ∧ (parseMethodDescriptor y.desc).map (fun d => d.parameters.length) = some n)
    (hR : d + 1 ≤ (xR x).frames ∧ 8 + (maxL + 11) + 39 * d ≤ (xR x).locals) (hf : a ≤ (xR x).cells ∧ b ≤ (xR x).slots) (hn : As.length = n) (hst : st0 = As.reverse ++ st) (hrest : (st.map fun v => v.category).sum ≤ 8) (hdg : decode cc pc = .ok (.invokestatic index, 3))
    (kk : V G x own cc nL Q (pc + 3) lv (e :: st) N (hC G S') a b) : V G x own cc nL Q pc lv st0 N (hC G S) a b :=
  v_callS hM hV hd4 hR hf hn hst hrest hdg (fun v N' h' q => by obtain ⟨r, rfl, rfl, rfl, rfl⟩ := q; exact kk)
theorem c_callVa {y : MethodName} {bytes : ByteArray} {maxL d index n kb ci : Nat} {ret : Option FieldType} {C : String} {r : vw_C} {fs As : List Value} {e : Value} (hM : CTa G (xl x) y bytes maxL ret d (.ref (gZ G + kb) :: As) N S e S') (hV : GoodIn lw_all (wsV own index C y (ws_ y bytes maxL ret))) (hd4 : y.cls = C ∧ y.cls ≠ "java/lang/invoke/MethodHandle" ∧ y.cls ≠ "java/lang/invoke/VarHandle" ∧ (parseMethodDescriptor y.desc).map (fun d => d.parameters.length) = some n)
    (hR : d + 1 ≤ (xR x).frames ∧ 8 + (maxL + 11) + 39 * d ≤ (xR x).locals) (hf : a ≤ (xR x).cells ∧ b ≤ (xR x).slots) (hkb : kb < N) (he : hC G S kb = .inr (ci, fs)) (hc : clX[ci]? = some r) (hrC : r.1 = C) (hn : As.length = n) (hst : st0 = As.reverse ++ .ref (gZ G + kb) :: st) (hrest : (st.map fun v => v.category).sum ≤ 8) (hdg : decode cc pc = .ok (.invokevirtual index, 3))
    (kk : V G x own cc nL Q (pc + 3) lv (e :: st) N (hC G S') a b) : V G x own cc nL Q pc lv st0 N (hC G S) a b :=
  v_callV hM hV hd4 hR hf hkb he hc hrC hn hst hrest hdg (fun v N' h' q => by obtain ⟨r, rfl, rfl, rfl, rfl⟩ := q; exact kk)
end VD
