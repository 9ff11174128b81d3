set_option maxRecDepth 100000
/-! more rows: references compared, longs copied, minima -/
def minI (a b : Int32) : Int32 := if b < a then b else a
theorem minI_N {x y : Nat} (hx : x < 2 ^ 31) (hy : y < 2 ^ 31) : minI (nI x) (nI y) = nI (min x y) := by
  unfold minI
  by_cases h : y < x
  · rw [if_pos ((nI_ltI hy hx).mpr h), Nat.min_eq_right (Nat.le_of_lt h)]
  · rw [if_neg (fun z => h ((nI_ltI hy hx).mp z)), Nat.min_eq_left (Nat.not_lt.mp h)]
def pcn (v : Nat) : Nat := (if v.testBit 0 then 1 else 0) + (if v.testBit 1 then 1 else 0) + (if v.testBit 2 then 1 else 0) + (if v.testBit 3 then 1 else 0) + (if v.testBit 4 then 1 else 0) + (if v.testBit 5 then 1 else 0) + (if v.testBit 6 then 1 else 0) + (if v.testBit 7 then 1 else 0)
section VQ
variable {G : GT} {x : VX} {own : String} {cc : ByteArray} {nL : Nat} {Q : State → Prop} {lv lv' : List (Nat × Value)} {st : List Value} {N : Nat} {h : Nat → va_E} {a b pc : Nat}
theorem v_acmp_neT {p q : Nat} {off : Int} (tgt : Nat) (hne : p ≠ q) (hd : decode cc pc = .ok (.if_acmp .ne off, 3)) (ht : (pc : Int) + off = (tgt : Int)) (kk : V G x own cc nL Q tgt lv st N h a b) : V G x own cc nL Q pc lv (.ref q :: .ref p :: st) N h a b := fun C H locs ls w s l =>
  lv_acmp_ne (rx := some p) (ry := some q) C.1.1 C.1.2.1 hd ht (fun _ => kk C H locs ls w s l) (fun z => absurd (Option.some.inj z) hne)
theorem v_mmin {index : Nat} {u v : Int32} (hlink : Cond.methodLink own index Lib.Math.min.name ∈ lw_all) (hf : 1 ≤ (xR x).frames) (hlo : (st.map fun v => v.category).sum + 13 ≤ (xR x).locals) (hc : a ≤ (xR x).cells) (hs : b ≤ (xR x).slots) (hd : decode cc pc = .ok (.invokestatic index, 3)) (kk : V G x own cc nL Q (pc + 3) lv (.int (minI u v) :: st) N h a b) : V G x own cc nL Q pc lv (.int v :: .int u :: st) N h a b := fun C H locs ls w s l =>
  va_mmin C.1.1 C.1.2.1 (by rw [C.1.2.2.1]; exact l.1.symm) C.1.2.2.2.1 (C.1.2.2.2.2 _ hlink) (C.1.2.2.2.2 _ q317) (C.1.2.2.2.2 _ q67) (C.1.2.2.2.2 _ q318) hf hlo hc hs hd (kk C H locs ls w s l)
theorem v_copyl {index k0 k1 n0 n1 m : Nat} {f g : Nat → Int64} {n : Int32} (hlink : Cond.methodLink own index arraycopyName ∈ lw_all) (h0 : k0 < N) (e0 : h k0 = .inl (gA G 1, n0, .inr (.inl f))) (h1 : k1 < N) (e1 : h k1 = .inl (gA G 1, n1, .inr (.inl g))) (hm : n = nI m) (hm0 : m ≤ n0) (hm1 : m ≤ n1) (hmm : m < 2 ^ 31)
    (hframes : 1 ≤ (xR x).frames) (hlocals : (st.map fun v => v.category).sum + (nativeFrameWords "java/lang/System" "arraycopy" 5 + 11) ≤ (xR x).locals) (hd : decode cc pc = .ok (.invokestatic index, 3))
    (kk : V G x own cc nL Q (pc + 3) lv st N (hu h k1 (.inl (gA G 1, n1, .inr (.inl (va_cpy f g 0 0 m))))) a b) : V G x own cc nL Q pc lv (.int n :: .int 0 :: .ref (gZ G + k1) :: .int 0 :: .ref (gZ G + k0) :: st) N h a b := by
  intro C H locs ls w s l
  subst hm
  have nn : ∀ z : Int32, ¬ z < 0 → z.toInt = (z.toNatClampNeg : Int) := by
    intro z hz
    have hz0 : (0 : Int) ≤ z.toInt := by
      have := Int32.not_lt.mp hz
      simpa using Int32.le_iff_toInt_le.mp this
    show z.toInt = ((z.toInt.toNat : Nat) : Int)
    omega
  intro T hT X
  have hc0 := w.at h0 e0
  have hc1 := w.at h1 e1
  have hz : (0 : Int32).toNatClampNeg = 0 := rfl
  have hmc : (nI m).toNatClampNeg = m := nI_clamp hmm
  obtain ⟨-, q0, hk0, cm0, hkk0⟩ := (C.2.2.1.2 1 _ rfl).1 n0 (fun j => .long (f j))
  obtain ⟨-, q1, hk1, cm1, hkk1⟩ := (C.2.2.1.2 1 _ rfl).1 n1 (fun j => .long (g j))
  obtain ⟨vm', X', step⟩ := X.arraycopy C.1.1 C.1.2.2.2.1 (C.1.2.2.2.2 _ hlink) (C.1.2.2.2.2 _ q321) (C.1.2.2.2.2 _ q320) (C.1.2.2.2.2 _ q68) (src := gZ G + k0) (dst := gZ G + k1) (cs := vp_cell (gA G 1) (n0, .inr (.inl f))) (cd := vp_cell (gA G 1) (n1, .inr (.inl g))) (srcPos := 0) (destPos := 0) (n := nI m) (by rw [hT]; exact hc0) (by rw [hT]; exact hc1)
    (fun _ h => by cases h) (fun _ h => by cases h) (fun h => by cases h) (fun h => by cases h) hk0 hk1 hkk0 hkk1 rfl (by decide) (by decide) (nI_pos hmm)
    (by rw [nn 0 (by decide), nn (nI m) (nI_pos hmm), hmc, hz]; show ¬ _ > ((arrV (gA G 1) n0 (fun j => Value.long (f j))).slots.size : Int); rw [arrV_size]; omega)
    (by rw [nn 0 (by decide), nn (nI m) (nI_pos hmm), hmc, hz]; show ¬ _ > ((arrV (gA G 1) n1 (fun j => Value.long (g j))).slots.size : Int); rw [arrV_size]; omega)
    (fun vm₁ hal i hi => by
      have e : (vp_cell (gA G 1) (n0, .inr (.inl f))).slots.getD ((0 : Int32).toNatClampNeg + i) .null = .long (f i) := by
        show (arrV (gA G 1) n0 (fun j => Value.long (f j))).slots.getD _ _ = _
        rw [hmc] at hi
        rw [hz, Nat.zero_add, Array.getD_eq_getD_getElem?, arrV_read _ _ (by omega)]
        rfl
      rw [e]
      first | exact ⟨rfl, trivial⟩ | exact rfl | simp [fits])
    (g := F0 (xm x) pc ls (.int (nI m) :: .int 0 :: .ref (gZ G + k1) :: .int 0 :: .ref (gZ G + k0) :: st)) rfl (by rw [C.1.2.2.1]; exact l.1) (rest := st) rfl (by rw [C.1.2.1]; exact hd) hframes (by show 2 * 0 + _ + _ ≤ _; omega)
  have e1' : copied (vp_cell (gA G 1) (n0, .inr (.inl f))) (vp_cell (gA G 1) (n1, .inr (.inl g))) 0 0 (nI m) = vp_cell (gA G 1) (n1, .inr (.inl (va_cpy f g 0 0 m))) := by
    rw [vp_cell_l, vp_cell_l, vp_cell_l]
    have := va_copied (sp := 0) (dp := 0) (n := m) (n0 := n0) (n1 := n1) (fun z => Value.long z) (gA G 1) (gA G 1) f g (by omega)
    rw [← this]
    unfold copied
    rw [hmc, hz]
  rw [e1'] at X' step
  have hl : gZ G + k1 < H.size := (Array.getElem?_eq_some_iff.mp hc1).1
  have hheap : ((T.setVm vm').setCell (gZ G + k1) (vp_cell (gA G 1) (n1, .inr (.inl (va_cpy f g 0 0 m))))).heap = H.setIfInBounds (gZ G + k1) (vp_cell (gA G 1) (n1, .inr (.inl (va_cpy f g 0 0 m)))) := by rw [← hT]; rfl
  have oq : ∀ q : Nat, q ≠ gZ G + k1 → (H.setIfInBounds (gZ G + k1) (vp_cell (gA G 1) (n1, .inr (.inl (va_cpy f g 0 0 m)))))[q]? = H[q]? := fun q hq => by simp [Array.getElem?_setIfInBounds, Ne.symm hq]
  obtain ⟨t, a1, b1⟩ := kk C _ _ ls (w.put h1 (show (H.setIfInBounds (gZ G + k1) _)[gZ G + k1]? = some _ by simp [Array.getElem?_setIfInBounds, hl]) (by simp) oq) ⟨by simp; exact s.1, fun q g1 g2 => by
      rw [oq q (fun e => g2 (by rw [e]; exact Nat.le_add_right _ _))]
      exact s.2.1 q g1 g2, fun q hq => by
      rcases List.mem_append.mp hq with h | h
      · exact s.2.2 q h
      · obtain ⟨z, -, hz⟩ := List.mem_map.mp h
        rw [← hz]
        exact Nat.le_add_right _ _⟩ l _ hheap X'
  exact ⟨t, step t a1, b1⟩
/-- the word of the bit set q copied into k's -/
theorem c_copyw {S : ST} {index k q v : Nat} (hk : BC k) (hq : BC q) (hlink : Cond.methodLink own index arraycopyName ∈ lw_all) (hN : k + 1 < N) (hN2 : q + 1 < N) (hv : S (q + 1) 0 = nI v)
    (hframes : 1 ≤ (xR x).frames) (hlocals : (st.map fun v => v.category).sum + (nativeFrameWords "java/lang/System" "arraycopy" 5 + 11) ≤ (xR x).locals) (hd : decode cc pc = .ok (.invokestatic index, 3))
    (kk : V G x own cc nL Q (pc + 3) lv st N (hC G (s2 S (k + 1) 0 (nI v))) a b) : V G x own cc nL Q pc lv (.int (nI 1) :: .int (nI 0) :: .ref (gZ G + (k + 1)) :: .int (nI 0) :: .ref (gZ G + (q + 1)) :: st) N (hC G S) a b := by
  refine v_copyl (k0 := q + 1) (k1 := k + 1) (m := 1) (f := fun j => lN (S (q + 1) j).toNatClampNeg) (g := fun j => lN (S (k + 1) j).toNatClampNeg) hlink hN2 (hq G (S (q + 1))).2 hN (hk G (S (k + 1))).2 rfl (by decide) (by decide) (by decide) hframes hlocals hd (v_eq rfl rfl ?_ kk)
  refine hC_s1 (f := upd (S (k + 1)) 0 (nI v)) ?_
  rw [(hk G _).2]
  unfold bsW
  congr 5
  funext j
  unfold va_cpy upd
  by_cases h : j = 0
  · subst h
    rw [if_pos rfl, if_pos (by omega)]
    show lN (nI v).toNatClampNeg = lN (S (q + 1) 0).toNatClampNeg
    rw [hv]
  · rw [if_neg h, if_neg (by omega)]
end VQ
