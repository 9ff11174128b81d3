set_option maxRecDepth 100000
/-! NEW CELLS where the world told already holds them -/
theorem outer_eq (c : ClassId) (N h0 : Nat) : ∀ i, Jvm.Free.Multi.outerC c N h0 i = { cls := c, slots := (Jvm.Free.Multi.outerC c N h0 i).slots, vm := .none }
  | 0 => rfl
  | i + 1 => by
    rw [Jvm.Free.Multi.outerC, outer_eq c N h0 i]
    rfl
section VNQ
variable {G : GT} {x : VX} {own : String} {cc : ByteArray} {nL : Nat} {Q : State → Prop} {lv lv' : List (Nat × Value)} {st st0 : List Value} {N : Nat} {h : Nat → va_E} {a b pc : Nat}
theorem v_newq {index t0 n : Nat} {C : String} (ht : (tyG G)[t0]? = some (gA G t0, .object C)) (hao : Cx G x own cc nL → va_AO C (xs x)) (hcl : Cond.classLink own index C ∈ lw_all) (hn : n < 2 ^ 31) (hbytes : n * 4 ≤ 536870912) (hcells : a + 1 ≤ (xR x).cells) (hslots : b + n ≤ (xR x).slots) (hd : decode cc pc = .ok (.anewarray index, 3))
    (kk : V G x own cc nL Q (pc + 3) lv (.ref (gZ G + N) :: st) (N + 1) (hu h N (.inl (gA G t0, n, .inr (.inr (.inr (.inr (fun _ => none))))))) (a + 1) (b + n)) : V G x own cc nL Q pc lv (.int (nI n) :: st) N h a b := by
  intro C' H locs ls w s l
  refine W.anew C'.1.1 C'.1.2.1 C'.1.2.2.2.1 (C'.1.2.2.2.2 _ hcl) (va_AO.use (hao C')) rfl hd rfl (nI_pos hn) (by rw [nI_clamp hn]; exact hbytes) hcells (by rw [nI_clamp hn]; exact hslots) fun cA kA comp f1 f2 f3 f4 => ?_
  rw [nI_clamp hn]
  obtain ⟨_, _, _, _, _, hf⟩ := (C'.2.2.1.2 t0 _ ht).2
  have hcA : cA = gA G t0 := Option.some.inj (f1.symm.trans hf)
  subst hcA
  generalize hH1 : H.push ({ cls := gA G t0, slots := Array.replicate n .null, vm := .none } : Cell) = H1
  have z1 : H1.size = H.size + 1 := by rw [← hH1, Array.size_push]
  have e1 : H1[H.size]? = some (arrV (gA G t0) n (fun _ => .null)) := by rw [← hH1, Array.getElem?_push_size, ← arrV_new]
  have o1 : ∀ q : Nat, q < H.size → H1[q]? = H[q]? := fun q hq => by rw [← hH1, Array.getElem?_push, if_neg (Nat.ne_of_lt hq)]
  have := kk C' H1 locs ls (w.push z1 o1 (show H1[H.size]? = some (vp_cell _ _) by rw [vp_cell_q]; exact e1)) (s.push1 z1 o1) l
  rw [← w.1] at this
  exact this
theorem v_mul {index n k : Nat} (hcl : Cond.classLink own index "[[I" ∈ lw_all) (hn : n ≤ 1000) (hk : k ≤ 1000) (hcells : a + (1 + n) ≤ (xR x).cells) (hslots : b + (n + n * k) ≤ (xR x).slots) (hN : h N = gridE G n (N + 1)) (hI : ∀ j, j < n → h (N + 1 + j) = iA G k (fun _ => nI 0)) (hd : decode cc pc = .ok (.multianewarray index 2, 4))
    (kk : V G x own cc nL Q (pc + 4) lv (.ref (gZ G + N) :: st) (N + (1 + n)) h (a + 1 + n) (b + n + n * k)) : V G x own cc nL Q pc lv (.int (nI k) :: .int (nI n) :: st) N h a b := by
  intro C H locs ls w s l T hT X
  have cn : (nI n).toNatClampNeg = n := nI_clamp (by omega)
  have ck : (nI k).toNatClampNeg = k := nI_clamp (by omega)
  obtain ⟨vm₁, cA, comp, hW, hfA, hfC, hO, hI', X1, stp⟩ := X.multianewarray2F C.1.1 (ty := .int) C.1.2.2.2.1 (show (Cond.classLink own index ("[" ++ (FieldType.array .int).toString)).before (xa x) (xs x) = true from C.1.2.2.2.2 _ hcl) (over_moved (Vm.Alike.refl _) C.2.2.2.2.1.2.2.2) (C.1.2.2.2.2 _ q123) (g := F0 (xm x) pc ls (.int (nI k) :: .int (nI n) :: st)) rfl (by rw [C.1.2.1]; exact hd) rfl (nI_pos (by omega)) (nI_pos (by omega)) (by rw [cn]; omega) (by rw [ck]; show k * 4 ≤ _; omega) (by rw [ck]; omega) rfl rfl (by rw [cn]; exact hcells) (by rw [cn, ck]; exact hslots)
  rw [cn, ck] at X1 stp
  have hcA : cA = gA G 4 := Option.some.inj (hfA.symm.trans (C.2.2.1.2 4 _ rfl).2)
  have hcI : comp = gA G 0 := Option.some.inj (hfC.symm.trans (C.2.2.1.2 0 _ rfl).2)
  subst hcA; subst hcI; subst hT
  obtain ⟨f1, f2, -, -⟩ := Jvm.Free.Multi.fill_facts (T.setVm vm₁) (gA G 4) (gA G 0) n k (defaultValue .int) n
  have fo := fun (q : Nat) (hq : q < T.heap.size) => Jvm.Free.Multi.fill_old (T.setVm vm₁) (gA G 4) (gA G 0) n k (defaultValue .int) (a := q) hq n
  have fi := fun (j : Nat) (hj : j < n) => Jvm.Free.Multi.fill_inner (T.setVm vm₁) (gA G 4) (gA G 0) n k (defaultValue .int) n j hj
  generalize Jvm.Free.Multi.fill (T.setVm vm₁) (gA G 4) (gA G 0) n k (defaultValue .int) n = U at f1 f2 fo fi X1 stp
  have f1 : U.heap.size = T.heap.size + 1 + n := f1
  have fo : ∀ q : Nat, q < T.heap.size → U.heap[q]? = T.heap[q]? := fo
  have f2 : U.heap[T.heap.size]? = some (Jvm.Free.Multi.outerC (gA G 4) n T.heap.size n) := f2
  have fi : ∀ j : Nat, j < n → U.heap[T.heap.size + 1 + j]? = some (Jvm.Free.Multi.innerC (gA G 0) k (defaultValue .int)) := fi
  have wo : Jvm.Free.Multi.outerC (gA G 4) n T.heap.size n = vp_cell (gA G 4) (n, .inr (.inr (.inr (.inr (fun j => some (gZ G + (N + 1 + j))))))) := by
    rw [vp_cell_q, outer_eq]
    obtain ⟨o1, o2, o3⟩ := Jvm.Free.Multi.outerC_facts (gA G 4) n T.heap.size n
    have os := fun (j : Nat) (hj : j < n) => Jvm.Free.Multi.outerC_slot (gA G 4) n T.heap.size n j hj
    generalize (Jvm.Free.Multi.outerC (gA G 4) n T.heap.size n).slots = s0 at o3 os ⊢
    unfold arrV
    congr 1
    refine Array.ext (by simpa using o3) fun j h1 h2 => ?_
    have z := os j (by rw [← o3]; exact h1)
    rw [if_pos (by rw [← o3]; exact h1), Array.getElem?_eq_getElem h1] at z
    rw [Option.some.inj z, Array.getElem_ofFn]
    show Value.ref (T.heap.size + 1 + j) = Value.ref (gZ G + (N + 1 + j))
    have e0 : T.heap.size + 1 + j = gZ G + (N + 1 + j) := by have := w.1; omega
    rw [e0]
  have wi : Jvm.Free.Multi.innerC (gA G 0) k (defaultValue .int) = vp_cell (gA G 0) (k, .inl (fun _ => nI 0)) := by
    rw [vp_cell_i, ← arrV_new]; rfl
  have hW' : WH G (N + (1 + n)) h U.heap := by
    refine ⟨by rw [f1, w.1]; omega, hp_P.mpr fun j hj => ?_⟩
    by_cases c1 : j < N
    · have h0 := hp_P.mp w.2 j c1
      exact h0.kept (fo _ h0.lt)
    · by_cases c2 : j = N
      · subst c2
        rw [hN, ← w.1]
        show U.heap[T.heap.size]? = some (vp_cell _ _)
        rw [f2, wo]
      · obtain ⟨i, hi⟩ : ∃ i, j = N + 1 + i := ⟨j - (N + 1), by omega⟩
        subst hi
        rw [hI i (by omega)]
        show U.heap[gZ G + (N + 1 + i)]? = some (vp_cell _ _)
        rw [show gZ G + (N + 1 + i) = T.heap.size + 1 + i by rw [w.1]; omega, fi i (by omega), wi]
  have hs' : va_S (AG G) (xs x).heap U.heap locs := ⟨Nat.le_trans s.1 (by omega), fun q h1 h2 => (fo q (Nat.lt_of_lt_of_le h1 s.1)).trans (s.2.1 q h1 h2), s.2.2⟩
  obtain ⟨t, a1, b1⟩ := kk C U.heap locs ls hW' hs' l U rfl X1
  refine ⟨t, stp t ?_, b1⟩
  rw [w.1]
  exact a1
end VNQ
