set_option maxRecDepth 100000
/-! NEW CELLS; METHODS THAT THROW -/
theorem WH.push {G : GT} {N : Nat} {h : Nat → va_E} {H H1 : Heap} {e : va_E} (w : WH G N h H) (z : H1.size = H.size + 1) (o : ∀ q, q < H.size → H1[q]? = H[q]?) (he : va_at G.1 clX (H.size, e) H1) : WH G (N + 1) (hu h N e) H1 := by
  refine ⟨by rw [z, w.1, Nat.add_assoc], hp_P.mpr fun j hj => ?_⟩
  by_cases hjn : j = N
  · subst hjn
    simp only [hu, if_pos rfl]
    rw [← w.1]
    exact he
  · simp only [hu, if_neg hjn]
    have h0 := hp_P.mp w.2 j (by omega)
    exact h0.kept (o _ h0.lt)
theorem va_S.push1 {A : Nat → Prop} {H0 H H1 : Heap} {locs : List Loc} (s : va_S A H0 H locs) (z : H1.size = H.size + 1) (o : ∀ q, q < H.size → H1[q]? = H[q]?) : va_S A H0 H1 locs := ⟨Nat.le_trans s.1 (by omega), fun q h1 h2 => (o q (Nat.lt_of_lt_of_le h1 s.1)).trans (s.2.1 q h1 h2), s.2.2⟩
section VN
variable {G : GT} {x : VX} {own : String} {cc : ByteArray} {nL : Nat} {Q : State → Prop} {lv lv' : List (Nat × Value)} {st st0 : List Value} {N : Nat} {h : Nat → va_E} {a b pc : Nat}
theorem v_new {index M ci : Nat} {C : String} {T : u_T} {fs : List Value} (hc : clX[ci]? = some (C, T, M)) (hin : ∀ w ∈ u_ws C T M, w ∈ lw_all) (ty0 : Nat → FieldType) (hty : ∀ k, k < M → parseFieldDescriptor (T k).2.2.1 = some (ty0 k)) (hcl : Cond.classLink own index C ∈ lw_all) (hinst : Cond.instantiable C M ∈ lw_all) (hini : Cond.initialized C ∈ lw_all) (hfs : ∀ j, j < M → defaultValue (ty0 j) = vp_V fs j) (hcells : a + 1 ≤ (xR x).cells) (hslots : b + M ≤ (xR x).slots) (hd : decode cc pc = .ok (.new index, 3))
    (kk : V G x own cc nL Q (pc + 3) lv (.ref (gZ G + N) :: st) (N + 1) (hu h N (.inr (ci, fs))) (a + 1) (b + M)) : V G x own cc nL Q pc lv st N h a b := by
  intro C H locs ls w s l
  have hKn := C.2.2.1.1 ci _ hc
  refine W.newcK C.1.1 C.1.2.1 C.1.2.2.2.1 (C.1.2.2.2.2 _ hcl) (C.1.2.2.2.2 _ hinst) (C.1.2.2.2.2 _ hini) rfl hd hcells hslots hKn.2.1 rfl fun H1 kC hkC e1 z1 o1 => ?_
  have := kk C H1 locs ls (w.push z1 o1 ⟨_, hc, (u_born ty0 C.1.2.2.2.2 hin hKn hkC e1 hty).to hfs⟩) (s.push1 z1 o1) l
  rw [← w.1] at this
  exact this
theorem v_newa {atype : ArrayType} {ty : FieldType} {t0 n : Nat} {a0 : vp_A} (ht : (tyG G)[t0]? = some (gA G t0, ty)) (hty : newarray.typeOf atype = ty) (hra : ∀ U : State, va_RA U (gA G t0) ty → U.vm.findClass ("[" ++ ty.toString) = some (gA G t0)) (harr : Cond.arrayClass ty ∈ lw_all) (ha : ∀ cA : ClassId, vp_cell cA a0 = arrV cA n (fun _ => defaultValue ty)) (hn : n < 2 ^ 31) (hbytes : n * componentBytes ty ≤ 536870912) (hcells : a + 1 ≤ (xR x).cells) (hslots : b + n ≤ (xR x).slots) (hd : decode cc pc = .ok (.newarray atype, 2))
    (kk : V G x own cc nL Q (pc + 2) lv (.ref (gZ G + N) :: st) (N + 1) (hu h N (.inl (gA G t0, a0))) (a + 1) (b + n)) : V G x own cc nL Q pc lv (.int (nI n) :: st) N h a b := by
  intro C H locs ls w s l
  subst hty
  refine va_newaK C.1.1 C.1.2.1 (C.1.2.2.2.2 _ harr) rfl hd rfl (nI_pos hn) (nI_clamp hn) hbytes hcells hslots rfl fun H1 cA e1 z1 o1 hAr hNm => ?_
  have hcA : cA = gA G t0 := Option.some.inj (hNm.symm.trans (hra _ (C.2.2.1.2 t0 _ ht).2))
  subst hcA
  have := kk C H1 locs ls (w.push z1 o1 (show H1[H.size]? = some (vp_cell _ _) by rw [ha]; exact e1)) (s.push1 z1 o1) l
  rw [← w.1] at this
  exact this
end VN
/-! a method that throws a Wrong -/
abbrev wrN : String := "ScopeTasks$Wrong"
def XG (G : GT) (px : Nat → Nat → (Nat → va_E) → Prop) : Nat → String → State → State → Prop := fun q E st t => E = wrN ∧ (∃ (N : Nat) (h : Nat → va_E), px q N h ∧ GW G N h t) ∧ va_F (AG G) st t
def CTX (G : GT) (l : Launch) (y : MethodName) (cc : ByteArray) (nL : Nat) (ret : Option FieldType) (d mc ms : Nat) (As : List Value) (N : Nat) (h : Nat → va_E) (post : Option Value → Nat → (Nat → va_E) → Prop) (px : Nat → Nat → (Nat → va_E) → Prop) : Prop :=
  vq_Met l y (ws_ y cc nL ret) (RM d mc ms) (va_Pc As (GW G N h)) (QG G post) (XG G px) mc ms (AG G)
def QQX (G : GT) (x : VX) (post : Option Value → Nat → (Nat → va_E) → Prop) (px : Nat → Nat → (Nat → va_E) → Prop) (mc ms : Nat) : State → Prop := vq_MQ (xb x) (QG G post) (XG G px) (xa x) (xs x) mc ms (AG G)
theorem CTX.mk {G : GT} {l : Launch} {y : MethodName} {cc : ByteArray} {nL : Nat} {ret : Option FieldType} {d mc ms : Nat} {As : List Value} {N : Nat} {h : Nat → va_E} {post : Option Value → Nat → (Nat → va_E) → Prop} {px : Nat → Nat → (Nat → va_E) → Prop} (own : String) (lv : List (Nat × Value)) (ho : y.cls = own) (hy : plainName y.cls = true) (hlv : lv_args 0 As = lv) (hlen : (lg_sl As).length ≤ nL)
    (body : ∀ x : VX, xR x = RM d mc ms → xl x = l → (xM x).sig.returnType = ret → (xM x).name = y.name → (∀ z ∈ (xc x).exceptionTable.toList, False) → V G x own cc nL (QQX G x post px mc ms) 0 lv [] N h 0 0) : CTX G l y cc nL ret d mc ms As N h post px := by
  subst ho; subst hlv
  refine vq_ofW (cc := cc) (maxL := nL) (ret := ret) hy rfl ?_
  intro p e s m args below meth c s₁ B hml hnt hv
  obtain ⟨rfl, hK, hN, hR, hF, hW⟩ := hv
  have hts := atoms_spec (ws := ws_ y cc nL ret) B.pre
  have hts : ∀ w ∈ lw_all, w.before _ s = true := fun w h => hts w (List.mem_cons_of_mem _ h)
  have hown : s.vm.findClass y.cls = some m.cls := findClass_of_methodNamed B.named
  have hl := lv_entry As (n := nL) hlen
  rw [lg_entry_eq]
  generalize (lg_sl As ++ List.replicate (nL - (lg_sl As).length) Slot.unset).toArray = ls at hl ⊢
  have hin : meth.name = y.name := (name_of_methodNamed B.named B.method).1
  exact body (p, l, e, RM d mc ms, s, m, _, below, meth, c) rfl rfl B.returns hin hnt ⟨⟨B.exec, B.bytes, hml, hown, hts⟩, B.notSynchronized, hK, hN, hR, hF, by rw [hW.1]; exact Nat.le_add_right _ _⟩ s.heap [] ls hW va_S.rf hl
section VT
variable {G : GT} {x : VX} {own : String} {cc : ByteArray} {nL : Nat} {Q : State → Prop} {lv lv' : List (Nat × Value)} {st st0 : List Value} {N : Nat} {h : Nat → va_E} {a b pc : Nat} {post post' : Option Value → Nat → (Nat → va_E) → Prop} {px px' : Nat → Nat → (Nat → va_E) → Prop} {mc ms mc' ms' : Nat}
theorem v_ok (kk : V G x own cc nL (QQ G x post 0 0) pc lv st N h a b) : V G x own cc nL (QQX G x post px mc ms) pc lv st N h a b := fun C H locs ls w s l => vq_ret (kk C H locs ls w s l)
theorem GW.at {t : State} {H : Heap} {locs : List Loc} (C : Cx G x own cc nL) (w : WH G N h H) (s : va_S (AG G) (xs x).heap H locs) (ht : t.heap = H) (hW : (xs x).WarmedH t.vm) : GW G N h t := ⟨C.2.2.1.moved hW.alike, C.2.2.2.1.warm hW, C.2.2.2.2.1.warm hW, (C.2.2.2.2.2.1.moved hW.alike).kept (fun q h1 h2 => by rw [ht]; exact s.2.1 q h1 h2), by rw [ht]; exact w⟩
/-- an object of the world is thrown, and leaves the method -/
theorem v_throw {k : Nat} {fs : List Value} (hk : k < N) (he : h k = .inr (5, fs)) (hout : ∀ z ∈ (xc x).exceptionTable.toList, False) (hp : px (gZ G + k) N h) (ha : a ≤ mc) (hb : b ≤ ms) (hd : decode cc pc = .ok (.athrow, 1)) : V G x own cc nL (QQX G x post px mc ms) pc lv (.ref (gZ G + k) :: st) N h a b := by
  intro C H locs ls w s l
  refine vq_athrow C.1.1 C.1.2.1 hd ?_
  obtain ⟨r, hr, cell, q1, q2, q3, q4⟩ := w.at hk he
  have hr' : r = (RX5, TX5, 7) := Option.some.inj (hr.symm.trans rfl)
  subst hr'
  have hKn := C.2.2.1.1 5 _ rfl
  refine vq_out (E := wrN) (ce := cell) (fun z hz => (hout z hz).elim) C.2.1 q1 q3 (by rw [q2]; exact hKn.2.1) (fun t ht hW => ⟨rfl, ⟨N, h, hp, GW.at C w s ht hW⟩, s.F ht⟩) s.2.2 ha hb
theorem v_callX {y : MethodName} {bytes : ByteArray} {maxL d index n kb ci : Nat} {ret : Option FieldType} {C : String} {r : vw_C} {fs As : List Value} (hM : CTX G (xl x) y bytes maxL ret d mc ms (.ref (gZ G + kb) :: As) N h post px) (hV : GoodIn lw_all (wsV own index C y (ws_ y bytes maxL ret))) (hd4 : y.cls = C ∧ y.cls ≠ "java/lang/invoke/MethodHandle" ∧ y.cls ≠ "java/lang/invoke/VarHandle" ∧ (parseMethodDescriptor y.desc).map (fun d => d.parameters.length) = some n)
    (hR : d + 1 ≤ (xR x).frames ∧ 8 + (maxL + 11) + 39 * d ≤ (xR x).locals) (hf : a + mc ≤ (xR x).cells ∧ b + ms ≤ (xR x).slots) (hkb : kb < N) (he : h kb = .inr (ci, fs)) (hc : clX[ci]? = some r) (hrC : r.1 = C) (hn : As.length = n) (hst : st0 = As.reverse ++ .ref (gZ G + kb) :: st) (hrest : (st.map fun v => v.category).sum ≤ 8) (hdg : decode cc pc = .ok (.invokevirtual index, 3))
    (hout : ∀ z ∈ (xc x).exceptionTable.toList, False) (hpx : ∀ q N' h', px q N' h' → px' q N' h') (hmc : a + mc ≤ mc') (hms : b + ms ≤ ms')
    (kk : ∀ v N' h', post v N' h' → V G x own cc nL (QQX G x post' px' mc' ms') (pc + 3) lv (v.toList ++ st) N' h' a b) : V G x own cc nL (QQX G x post' px' mc' ms') pc lv st0 N h a b := by
  intro C H locs ls w s l
  subst hrC; subst hst
  intro T hT X
  have keep : ∀ {st₀ t T' : State} {L : List Loc}, st₀.heap = H → T'.heap = t.heap → (∀ q ∈ L, AG G q.base) → va_F (AG G) st₀ t → va_S (AG G) (xs x).heap T'.heap (locs ++ L) := fun {st₀ t T' L} h0 e1 hL hF => ⟨Nat.le_trans s.1 (by rw [e1, ← h0]; exact hF.1), fun q h1 h2 => by rw [e1, hF.2 q (by rw [h0]; exact Nat.lt_of_lt_of_le h1 s.1) h2, h0]; exact s.2.1 q h1 h2, fun q hq => by
      rcases List.mem_append.mp hq with h | h
      · exact s.2.2 q h
      · exact hL q h⟩
  rcases vq_runV (As := As) (rest := st) C.1 hM (cwV n C.1.2.2.2.2 hV rfl rfl rfl hd4 hR) ⟨GW.blind, va_recv C.2.2.1 w.2 hc (hp_e hkb he), v_pre C w s⟩ rfl hn l.1 rfl (lv_room hrest) hdg hf T hT X with ⟨v, st₀, t, T', L, h0, X', hL, e1, e2, ⟨⟨v', N', h', hv, hp, hK, hN, hR, hS, hW⟩, hF⟩, stp⟩ | ⟨q, st₀, t, T', L, E, ce, h0, X', hL, e1, e2, ⟨rfl, ⟨N', h', hp, hG⟩, hF⟩, hce, hcv, hcl, stp⟩
  · cases hv
    obtain ⟨t2, a1, b1⟩ := kk v N' h' hp C T'.heap (locs ++ L) ls (by rw [e1]; exact hW) (keep h0 e1 hL hF) l T' rfl X'
    exact ⟨t2, stp t2 a1, b1⟩
  · have s' := keep h0 e1 hL hF
    have w' : WH G N' h' T'.heap := by rw [e1]; exact hG.2.2.2.2
    obtain ⟨t2, a1, b1⟩ := vq_out (Qc := QG G post') (XC := XG G px') (pc := pc) (ls := ls) (rest := st) (mc := mc') (ms := ms') (free := AG G) (E := wrN) (ce := ce) (q := q) (H := T'.heap) (locs := locs ++ L) (cells := a + mc) (slots := b + ms) (fun z hz => (hout z hz).elim) C.2.1 (by rw [e1]; exact hce) hcv hcl (fun t ht hW => ⟨rfl, ⟨N', h', hpx _ _ _ hp, GW.at C w' s' ht hW⟩, s'.F ht⟩) s'.2.2 hmc hms T' rfl X'
    exact ⟨t2, stp.trans a1, b1⟩
end VT
