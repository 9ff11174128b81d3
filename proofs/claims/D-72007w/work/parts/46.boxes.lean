set_option maxRecDepth 100000
/-! BOXES (java.lang.Integer of the cache), casts -/
section VX
variable {G : GT} {x : VX} {own : String} {cc : ByteArray} {nL : Nat} {Q : State → Prop} {lv lv' : List (Nat × Value)} {st st0 : List Value} {N : Nat} {S S' : ST} {h : Nat → va_E} {a b pc : Nat}
theorem box_recv {c : Nat} {H : Heap} {locs : List Loc} (hc : c < 256) (C : Cx G x own cc nL) (s : va_S (AG G) (xs x).heap H locs) : ∃ cell : Cell, H[gI G c]? = some cell ∧ cell.vm.isStatics = false ∧ (xs x).vm.findClass "java/lang/Integer" = some cell.cls := by
  obtain ⟨cell, g1, g2, g3, g4⟩ := C.2.2.2.2.2.1.2.2.2.2.1.1 c hc
  have hlt : gI G c < (xs x).heap.size := (Array.getElem?_eq_some_iff.mp g1).1
  exact ⟨cell, by rw [s.2.1 _ hlt g4]; exact g1, g2, g3⟩
theorem v_castI {c index : Nat} (hc : c < 128) (hlink : Cond.classLink own index "java/lang/Integer" ∈ lw_all) (hd : decode cc pc = .ok (.checkcast index, 3)) (kk : V G x own cc nL Q (pc + 3) lv (.ref (gI G (c + 128)) :: st) N h a b) : V G x own cc nL Q pc lv (.ref (gI G (c + 128)) :: st) N h a b := fun C H locs ls w s l =>
  va_castE C.1.1 C.1.2.1 C.1.2.2.2.1 (C.1.2.2.2.2 _ hlink) (box_recv (by omega) C s) hd (kk C H locs ls w s l)
theorem v_castR {c index : Nat} (hc : RB c) (hcN : c < N) (hlink : Cond.classLink own index "ScopeTasks$Run" ∈ lw_all) (hd : decode cc pc = .ok (.checkcast index, 3)) (kk : V G x own cc nL Q (pc + 3) lv (.ref (gZ G + c) :: st) N (hC G S) a b) : V G x own cc nL Q pc lv (.ref (gZ G + c) :: st) N (hC G S) a b := fun C H locs ls w s l =>
  va_castE C.1.1 C.1.2.1 C.1.2.2.2.1 (C.1.2.2.2.2 _ hlink) (va_recv (ci := 2) C.2.2.1 w.2 rfl (hp_e hcN (hC_run (j := 0) hc (by decide) rfl))) hd (kk C H locs ls w s l)
theorem v_tq {c : Nat} (hc : c < 128) (hd : decode cc pc = .ok (.aaload, 1)) (kk : V G x own cc nL Q (pc + 1) lv (.ref (gI G (c + 128)) :: st) N h a b) : V G x own cc nL Q pc lv (.int (nI (c + 128)) :: .ref (gX G 0) :: st) N h a b := fun C H locs ls w s l =>
  vb_tq C.1.1 C.1.2.1 C.2.2.2.2.2.1.2.2.2.1 s (nI_vp (by omega) (by decide)) (by rw [nI_clamp (by omega)]) hd (kk C H locs ls w s l)
theorem vb_cN {c : Nat} : vb_c (c + 128) = nI c := by
  unfold vb_c
  exact (pk_sub (a := c + 128) (b := 128) (by omega)).trans (by rw [Nat.add_sub_cancel])
theorem v_getI {c index : Nat} (hc : c < 128) (hlink : Cond.fieldLink own index "java/lang/Integer" "value" "I" ∈ lw_all) (hd : decode cc pc = .ok (.getfield index, 3)) (kk : V G x own cc nL Q (pc + 3) lv (.int (nI c) :: st) N h a b) : V G x own cc nL Q pc lv (.ref (gI G (c + 128)) :: st) N h a b := fun C H locs ls w s l =>
  va_getX (i := c + 128) (v := fun k => .int (vb_c k)) C.1.1 C.1.2.1 C.2.2.2.2.2.1.2.2.2.2.1.2 (by omega) s C.1.2.2.2.1 (C.1.2.2.2.2 _ hlink) (fun _ h9 => h9) hd (by show W _ _ _ _ _ _ _ _ _ _ _ _ _ _ _ (F0 _ _ _ (.int (vb_c (c + 128)) :: _)); rw [vb_cN]; exact kk C H locs ls w s l)
theorem c_callXi {y : MethodName} {bytes : ByteArray} {maxL d index n c : Nat} {ret : Option FieldType} {As : List Value} {e : Int32} (hM : CTi G (xl x) y bytes maxL ret d (.ref (gI G (c + 128)) :: As) N S e S') (hV : GoodIn lw_all (wsV own index "java/lang/Integer" y (ws_ y bytes maxL ret))) (hd4 : y.cls = "java/lang/Integer" ∧ y.cls ≠ "java/lang/invoke/MethodHandle" ∧ y.cls ≠ "java/lang/invoke/VarHandle" ∧ (parseMethodDescriptor y.desc).map (fun d => d.parameters.length) = some n)
    (hR : d + 1 ≤ (xR x).frames ∧ 8 + (maxL + 11) + 39 * d ≤ (xR x).locals) (hf : a ≤ (xR x).cells ∧ b ≤ (xR x).slots) (hc : c < 128) (hn : As.length = n) (hst : st0 = As.reverse ++ .ref (gI G (c + 128)) :: st) (hrest : (st.map fun v => v.category).sum ≤ 8) (hdg : decode cc pc = .ok (.invokevirtual index, 3))
    (kk : V G x own cc nL Q (pc + 3) lv (.int e :: st) N (hC G S') a b) : V G x own cc nL Q pc lv st0 N (hC G S) a b := by
  intro C H locs ls w s l
  subst hst
  exact v_run (y := y) (bytes := bytes) (maxL := maxL) (d := d) (ret := ret) (As := As) (free := AG G) (C := C) w s l (va_runV (As := As) (rest := st) C.1 hM (cwV n C.1.2.2.2.2 hV rfl rfl rfl hd4 hR) ⟨GW.blind, box_recv (by omega) C s, v_pre C w s⟩ rfl hn l.1 rfl (lv_room hrest) hdg hf) (fun v N' h' q => by obtain ⟨r, rfl, rfl, rfl, rfl⟩ := q; exact kk)
end VX
