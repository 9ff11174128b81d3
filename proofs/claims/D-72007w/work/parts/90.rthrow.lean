set_option maxRecDepth 100000
/-! ScopeTasks$Reader: contracts that throw -/
def wrf (v : Int32) : Nat → Int32 := fun j => if j = 9 then nI 1 else if j = 6 then v else nI 0
def pxW (G : GT) (N : Nat) (T : ST) (r : Nat) : Nat → Nat → (Nat → va_E) → Prop := fun q N' h' => q = gZ G + N ∧ N' = N + 1 ∧ h' = hC G (s1 T N (wrf (T r 1)))
abbrev CTXi (G : GT) (l : Launch) (y : MethodName) (cc : ByteArray) (nL : Nat) (ret : Option FieldType) (d : Nat) (As : List Value) (N r : Nat) (S : ST) (R : Bool × ST) (e : Int32) : Prop := CTX G l y cc nL ret d 1 7 As N (hC G S) (fun u N' h' => R.1 = true ∧ u = some (.int e) ∧ N' = N ∧ h' = hC G R.2) (fun q N' h' => R.1 = false ∧ pxW G N R.2 r q N' h')
theorem thr_to {G : GT} {N r q N' : Nat} {h' : Nat → va_E} {R R' : Bool × ST} (e : R' = (false, R.2)) (h : pxW G N R.2 r q N' h') : R'.1 = false ∧ pxW G N R'.2 r q N' h' := by rw [e]; exact ⟨rfl, h⟩
section VX9
variable {G : GT} {x : VX} {own : String} {cc : ByteArray} {nL : Nat} {Q : State → Prop} {lv lv' : List (Nat × Value)} {st st0 : List Value} {N r : Nat} {S : ST} {pc : Nat} {post' : Option Value → Nat → (Nat → va_E) → Prop} {px' : Nat → Nat → (Nat → va_E) → Prop}
theorem c_callXX {y : MethodName} {bytes : ByteArray} {maxL d index n kb ci : Nat} {ret : Option FieldType} {C : String} {rr : vw_C} {fs As : List Value} {R : Bool × ST} {e : Int32} (hM : CTXi G (xl x) y bytes maxL ret d (.ref (gZ G + kb) :: As) N r S R e) (hV : GoodIn lw_all (wsV own index C y (ws_ y bytes maxL ret))) (hd4 : y.cls = C ∧ y.cls ≠ "java/lang/invoke/MethodHandle" ∧ y.cls ≠ "java/lang/invoke/VarHandle" ∧ (parseMethodDescriptor y.desc).map (fun d => d.parameters.length) = some n)
    (hR : d + 1 ≤ (xR x).frames ∧ 8 + (maxL + 11) + 39 * d ≤ (xR x).locals) (hf : 0 + 1 ≤ (xR x).cells ∧ 0 + 7 ≤ (xR x).slots) (hkb : kb < N) (he : hC G S kb = .inr (ci, fs)) (hc : clX[ci]? = some rr) (hrC : rr.1 = C) (hn : As.length = n) (hst : st0 = As.reverse ++ .ref (gZ G + kb) :: st) (hrest : (st.map fun v => v.category).sum ≤ 8) (hdg : decode cc pc = .ok (.invokevirtual index, 3))
    (hout : ∀ z ∈ (xc x).exceptionTable.toList, False) (kx : R.1 = false → ∀ q N' h', pxW G N R.2 r q N' h' → px' q N' h')
    (kk : R.1 = true → V G x own cc nL (QQX G x post' px' 1 7) (pc + 3) lv (.int e :: st) N (hC G R.2) 0 0) : V G x own cc nL (QQX G x post' px' 1 7) pc lv st0 N (hC G S) 0 0 :=
  v_callX hM hV hd4 hR hf hkb he hc hrC hn hst hrest hdg hout (fun q N' h' z => kx z.1 q N' h' z.2) (Nat.le_refl _) (Nat.le_refl _) (fun v N' h' z => by obtain ⟨z1, rfl, rfl, rfl⟩ := z; exact kk z1)
end VX9
/-- behind a step -/
def rdDu (r : Nat) (X : Nat → Int32) (L : Nat) (S : ST) : ST := s1 S r (stF X L (nn (S r 0)) (S r))
noncomputable def dueC (r : Nat) (X : Nat → Int32) (L : Nat) (P : Prop) (S : ST) : Bool × ST := @ite _ P (Classical.propDecidable P) (true, rdDu r X L S) (false, S)
abbrev numP (r : Nat) (lo hi : Int32) (S : ST) : Prop := S r 2 = nI 11 ∧ (lo ≤ S r 3 ∧ S r 3 ≤ hi)
abbrev tolP (r : Nat) (S : ST) : Prop := S r 2 = nI 11 ∧ S r 3 < S 27 0
abbrev gatP (r : Nat) (S : ST) : Prop := S r 2 = nI 11 ∧ S r 3 < S 27 0 ∧ ¬ (nn (S 52 0)).testBit (nn (S r 3)) = true
theorem dueC_t {r : Nat} {X : Nat → Int32} {L : Nat} {P : Prop} {S : ST} (h : P) : dueC r X L P S = (true, rdDu r X L S) := by unfold dueC; rw [if_pos h]
theorem dueC_f {r : Nat} {X : Nat → Int32} {L : Nat} {P : Prop} {S : ST} (h : ¬ P) : dueC r X L P S = (false, S) := by unfold dueC; rw [if_neg h]
