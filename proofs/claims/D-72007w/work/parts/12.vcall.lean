set_option maxRecDepth 100000
/-! CONTRACTS, CALLS, RETURNS -/
def RM (d mc ms : Nat) : Room := { frames := d, cells := mc, slots := ms, locals := 39 * d }
def QG (G : GT) (post : Option Value → Nat → (Nat → va_E) → Prop) : Array Value → State → Outcome → State → Prop := fun _ st oc t =>
  (∃ (v : Option Value) (N : Nat) (h : Nat → va_E), oc = .returned v ∧ post v N h ∧ GW G N h t) ∧ va_F (AG G) st t
/-- the contract of a method at one start: these arguments, this world; then post of its answer and world -/
def CT (G : GT) (l : Launch) (y : MethodName) (cc : ByteArray) (nL : Nat) (ret : Option FieldType) (d mc ms : Nat) (As : List Value) (N : Nat) (h : Nat → va_E) (post : Option Value → Nat → (Nat → va_E) → Prop) : Prop :=
  Met l y (ws_ y cc nL ret) (RM d mc ms) (va_Pc As (GW G N h)) (QG G post) mc ms (AG G)
def QQ (G : GT) (x : VX) (post : Option Value → Nat → (Nat → va_E) → Prop) (mc ms : Nat) : State → Prop := MQ (xb x) (QG G post) (xa x) (xs x) mc ms (AG G)
theorem GW.blind {G : GT} {N : Nat} {h : Nat → va_E} {As : List Value} : FrameBlind (va_Pc As (GW G N h)) := by
  intro a U g mk q
  obtain ⟨q0, qK, qN, qR, qS, qW⟩ := q
  exact ⟨q0, va_K.moved (u := U) (U := U.calling g mk a) (Vm.Alike.refl U.vm) qK, NW.same (u := U) (U := U.calling g mk a) rfl qN, ⟨vk_R.same (u := U) (U := U.calling g mk a) rfl qR.1, va_AO.moved (u := U) (U := U.calling g mk a) (Vm.Alike.refl U.vm) qR.2.1, va_AO.moved (u := U) (U := U.calling g mk a) (Vm.Alike.refl U.vm) qR.2.2.1, over_moved (u := U) (E := U.calling g mk a) (Vm.Alike.refl U.vm) qR.2.2.2⟩, SF.moved (u := U) (U := U.calling g mk a) (Vm.Alike.refl U.vm) qS, qW⟩
theorem CT.mk {G : GT} {l : Launch} {y : MethodName} {cc : ByteArray} {nL : Nat} {ret : Option FieldType} {d mc ms : Nat} {As : List Value} {N : Nat} {h : Nat → va_E} {post : Option Value → Nat → (Nat → va_E) → Prop} (own : String) (lv : List (Nat × Value)) (ho : y.cls = own) (hy : plainName y.cls = true) (hlv : lv_args 0 As = lv) (hlen : (lg_sl As).length ≤ nL)
    (body : ∀ x : VX, xR x = RM d mc ms → xl x = l → (xM x).sig.returnType = ret → (xM x).name = y.name → V G x own cc nL (QQ G x post mc ms) 0 lv [] N h 0 0) : CT G l y cc nL ret d mc ms As N h post := by
  subst ho; subst hlv
  refine Met.ofW (cc := cc) (maxL := nL) (ret := ret) hy rfl ?_
  intro p e s m args below meth c s₁ B hml hv
  obtain ⟨rfl, hK, hN, hR, hF, hW⟩ := hv
  have hts := atoms_spec (ws := ws_ y cc nL ret) B.pre
  have hts : ∀ w ∈ lw_all, w.before _ s = true := fun w h => hts w (List.mem_cons_of_mem _ h)
  have hown : s.vm.findClass y.cls = some m.cls := findClass_of_methodNamed B.named
  have hl := lv_entry As (n := nL) hlen
  rw [lg_entry_eq]
  generalize (lg_sl As ++ List.replicate (nL - (lg_sl As).length) Slot.unset).toArray = ls at hl ⊢
  have hin : meth.name = y.name := (name_of_methodNamed B.named B.method).1
  exact body (p, l, e, RM d mc ms, s, m, _, below, meth, c) rfl rfl B.returns hin ⟨⟨B.exec, B.bytes, hml, hown, hts⟩, B.notSynchronized, hK, hN, hR, hF, by rw [hW.1]; exact Nat.le_add_right _ _⟩ s.heap [] ls hW va_S.rf hl
theorem CT.weaken {G : GT} {l : Launch} {y : MethodName} {cc : ByteArray} {nL : Nat} {ret : Option FieldType} {d mc ms : Nat} {As : List Value} {N : Nat} {h : Nat → va_E} {post post' : Option Value → Nat → (Nat → va_E) → Prop} (c : CT G l y cc nL ret d mc ms As N h post) (w : ∀ v N' h', post v N' h' → post' v N' h') : CT G l y cc nL ret d mc ms As N h post' := by
  intro p e ha hc hk s m args below hf happ hP hk2
  obtain ⟨k, o, h1, h2, h3, ⟨⟨⟨v, N', h', e1, e2, e3⟩, hF⟩, hL⟩⟩ := c p e ha hc hk s m args below hf happ hP hk2
  exact ⟨k, o, h1, h2, h3, ⟨⟨⟨v, N', h', e1, w _ _ _ e2, e3⟩, hF⟩, hL⟩⟩
section VC
variable {G : GT} {x : VX} {own : String} {cc : ByteArray} {nL : Nat} {Q : State → Prop} {lv lv' : List (Nat × Value)} {st st0 : List Value} {N : Nat} {h : Nat → va_E} {a b : Nat} {post : Option Value → Nat → (Nat → va_E) → Prop} {mc ms pc : Nat}
theorem v_done {v : Option Value} {H : Heap} {locs : List Loc} (C : Cx G x own cc nL) (w : WH G N h H) (s : va_S (AG G) (xs x).heap H locs) (hp : post v N h) : ∀ t : State, t.heap = H → (xs x).WarmedH t.vm → QG G post (xa x) (xs x) (.returned v) t := fun t ht hW =>
  ⟨⟨v, N, h, rfl, hp, C.2.2.1.moved hW.alike, C.2.2.2.1.warm hW, C.2.2.2.2.1.warm hW, (C.2.2.2.2.2.1.moved hW.alike).kept (fun q h1 h2 => by rw [ht]; exact s.2.1 q h1 h2), by rw [ht]; exact w⟩, s.F ht⟩
theorem v_iret {v : Int32} {ty : FieldType} (hr : (xM x).sig.returnType = some ty) (hn : narrow ty (.int v) = .int v) (ha : a ≤ mc) (hb : b ≤ ms) (hd : decode cc pc = .ok (.ireturn, 1)) (hp : post (some (.int v)) N h) : V G x own cc nL (QQ G x post mc ms) pc lv [.int v] N h a b := fun C H locs ls w s l =>
  W.widen ha hb (W.zret C.1.1 C.1.2.1 hr hn (v_done C w s hp) s.2.2 hd C.2.1)
theorem v_vret (hr : (xM x).sig.returnType = none) (ha : a ≤ mc) (hb : b ≤ ms) (hd : decode cc pc = .ok (.return_, 1)) (hp : post none N h) : V G x own cc nL (QQ G x post mc ms) pc lv [] N h a b := fun C H locs ls w s l =>
  W.widen ha hb (W.vret C.1.1 C.1.2.1 hr (v_done C w s hp) s.2.2 hd C.2.1)
theorem v_aret {v : Value} {rt : FieldType} (hr : (xM x).sig.returnType = some rt) (hrt : (∃ n, rt = .object n) ∨ ∃ t, rt = .array t) (hv : v = .null ∨ ∃ a, v = .ref a) (ha : a ≤ mc) (hb : b ≤ ms) (hd : decode cc pc = .ok (.areturn, 1)) (hp : post (some v) N h) : V G x own cc nL (QQ G x post mc ms) pc lv [v] N h a b := fun C H locs ls w s l =>
  W.widen ha hb (W.aret C.1.1 C.1.2.1 hr hrt hv (v_done C w s hp) s.2.2 hd C.2.1)
theorem v_run {y : MethodName} {bytes : ByteArray} {maxL d mc ms : Nat} {ret : Option FieldType} {As : List Value} {free : Addr → Prop} {C : Cx G x own cc nL} {H : Heap} {locs : List Loc} {ls : Array Slot} (w : WH G N h H) (s : va_S (AG G) (xs x).heap H locs) (l : lv_has ls nL lv) {ar : Array Value}
    (hr : va_Run (xp x) (xl x) (xe x) (xR x) (xs x) (xm x) (xa x) (xb x) (xM x) (xc x) H locs a b mc ms (F0 (xm x) pc ls st0) st (QG G post ar) (AG G))
    (kk : ∀ v N' h', post v N' h' → V G x own cc nL Q (pc + 3) lv (v.toList ++ st) N' h' (a + mc) (b + ms)) : W (xp x) (xl x) (xe x) (xR x) (xs x) (xm x) (xa x) (xb x) (xM x) (xc x) H locs a b Q (F0 (xm x) pc ls st0) := by
  intro T hT X
  obtain ⟨v, st₀, t, T', L, h0, X', hL, e1, e2, ⟨⟨v', N', h', hv, hp, hK, hN, hR, hS, hW⟩, hz, hk⟩, stp⟩ := hr T hT X
  cases hv
  rw [h0] at hz hk
  obtain ⟨t2, a1, b1⟩ := kk v N' h' hp C T'.heap (locs ++ L) ls (by rw [e1]; exact hW) ⟨Nat.le_trans s.1 (by rw [e1]; exact hz), fun q h1 h2 => by rw [e1, hk q (Nat.lt_of_lt_of_le h1 s.1) h2]; exact s.2.1 q h1 h2, fun q hq => by
      rcases List.mem_append.mp hq with h | h
      · exact s.2.2 q h
      · exact hL q h⟩ l T' rfl X'
  exact ⟨t2, stp t2 a1, b1⟩
theorem v_pre {As : List Value} {H : Heap} {locs : List Loc} (C : Cx G x own cc nL) (w : WH G N h H) (s : va_S (AG G) (xs x).heap H locs) : ∀ U : State, U.heap = H → (xs x).WarmedH U.vm → va_Pc As (GW G N h) As.toArray U := fun U hU hW =>
  ⟨rfl, C.2.2.1.moved hW.alike, C.2.2.2.1.warm hW, C.2.2.2.2.1.warm hW, (C.2.2.2.2.2.1.moved hW.alike).kept (fun q h1 h2 => by rw [hU]; exact s.2.1 q h1 h2), by rw [hU]; exact w⟩
/-- a call through an object of the world -/
theorem v_callV {y : MethodName} {bytes : ByteArray} {maxL d mc ms index n kb ci : Nat} {ret : Option FieldType} {C : String} {r : vw_C} {fs As : List Value} (hM : CT G (xl x) y bytes maxL ret d mc ms (.ref (gZ G + kb) :: As) N h post) (hV : GoodIn lw_all (wsV own index C y (ws_ y bytes maxL ret))) (hd4 : y.cls = C ∧ y.cls ≠ "java/lang/invoke/MethodHandle" ∧ y.cls ≠ "java/lang/invoke/VarHandle" ∧ (parseMethodDescriptor y.desc).map (fun d => d.parameters.length) = some n)
    (hR : d + 1 ≤ (xR x).frames ∧ 8 + (maxL + 11) + 39 * d ≤ (xR x).locals) (hf : a + mc ≤ (xR x).cells ∧ b + ms ≤ (xR x).slots) (hkb : kb < N) (he : h kb = .inr (ci, fs)) (hc : clX[ci]? = some r) (hrC : r.1 = C) (hn : As.length = n) (hst : st0 = As.reverse ++ .ref (gZ G + kb) :: st) (hrest : (st.map fun v => v.category).sum ≤ 8) (hdg : decode cc pc = .ok (.invokevirtual index, 3))
    (kk : ∀ v N' h', post v N' h' → V G x own cc nL Q (pc + 3) lv (v.toList ++ st) N' h' (a + mc) (b + ms)) : V G x own cc nL Q pc lv st0 N h a b := by
  intro C H locs ls w s l
  subst hrC; subst hst
  exact v_run (y := y) (bytes := bytes) (maxL := maxL) (d := d) (ret := ret) (As := As) (free := AG G) (C := C) w s l (va_runV (As := As) (rest := st) C.1 hM (cwV n C.1.2.2.2.2 hV rfl rfl rfl hd4 hR) ⟨GW.blind, va_recv C.2.2.1 w.2 hc (hp_e hkb he), v_pre C w s⟩ rfl hn l.1 rfl (lv_room hrest) hdg hf) kk
theorem v_callS {y : MethodName} {bytes : ByteArray} {maxL d mc ms index n : Nat} {ret : Option FieldType} {As : List Value} (hM : CT G (xl x) y bytes maxL ret d mc ms As N h post) (hV : GoodIn lw_all (va_wsS own index y (ws_ y bytes maxL ret))) (hd4 : y.cls ≠ "java/lang/invoke/MethodHandle" ∧ y.cls ≠ "java/lang/invoke/VarHandle" ∧ (parseMethodDescriptor y.desc).map (fun d => d.parameters.length) = some n)
    (hR : d + 1 ≤ (xR x).frames ∧ 8 + (maxL + 11) + 39 * d ≤ (xR x).locals) (hf : a + mc ≤ (xR x).cells ∧ b + ms ≤ (xR x).slots) (hn : As.length = n) (hst : st0 = As.reverse ++ st) (hrest : (st.map fun v => v.category).sum ≤ 8) (hdg : decode cc pc = .ok (.invokestatic index, 3))
    (kk : ∀ v N' h', post v N' h' → V G x own cc nL Q (pc + 3) lv (v.toList ++ st) N' h' (a + mc) (b + ms)) : V G x own cc nL Q pc lv st0 N h a b := by
  intro C H locs ls w s l
  subst hst
  exact v_run (y := y) (bytes := bytes) (maxL := maxL) (d := d) (ret := ret) (As := As) (free := AG G) (C := C) w s l (va_runS (As := As) (rest := st) C.1 hM (va_cwS n C.1.2.2.2.2 hV rfl rfl rfl hd4 hR) ⟨GW.blind, v_pre C w s⟩ rfl hn l.1 rfl (lv_room hrest) hdg hf) kk
theorem v_callI {y : MethodName} {bytes : ByteArray} {maxL d mc ms index n kb : Nat} {As : List Value} (hM : CT G (xl x) y bytes maxL none d mc ms (.ref (gZ G + kb) :: As) N h post) (hG : GoodIn lw_all (ws_ y bytes maxL none)) (hini : Cond.initialized y.cls ∈ lw_all) (hl1 : Cond.methodLink own index y ∈ lw_all) (hin : Cond.instanceMethod y ∈ lw_all) (hy1 : y.name = "<init>") (hd4 : y.cls ≠ "java/lang/invoke/MethodHandle" ∧ y.cls ≠ "java/lang/invoke/VarHandle" ∧ (parseMethodDescriptor y.desc).map (fun d => d.parameters.length) = some n)
    (hR : d + 1 ≤ (xR x).frames ∧ 8 + (maxL + 11) + 39 * d ≤ (xR x).locals) (hf : a + mc ≤ (xR x).cells ∧ b + ms ≤ (xR x).slots) (hn : As.length = n) (hst : st0 = As.reverse ++ .ref (gZ G + kb) :: st) (hrest : (st.map fun v => v.category).sum ≤ 8) (hdg : decode cc pc = .ok (.invokespecial index, 3))
    (kk : ∀ v N' h', post v N' h' → V G x own cc nL Q (pc + 3) lv (v.toList ++ st) N' h' (a + mc) (b + ms)) : V G x own cc nL Q pc lv st0 N h a b := by
  intro C H locs ls w s l
  subst hst
  exact v_run (y := y) (bytes := bytes) (maxL := maxL) (d := d) (ret := none) (As := As) (free := AG G) (C := C) w s l (va_runI (As := As) (rest := st) C.1 hM (cwI n C.1.2.2.2.2 hG rfl rfl rfl (C.1.2.2.2.2 _ hini) (C.1.2.2.2.2 _ hl1) (C.1.2.2.2.2 _ hin) hy1 hd4 hR) ⟨GW.blind, v_pre C w s⟩ rfl hn l.1 rfl (lv_room hrest) hdg hf) kk
theorem v_callIN {y : MethodName} {bytes : ByteArray} {maxL d mc ms index n kb : Nat} {host : String} {As : List Value} (hM : CT G (xl x) y bytes maxL none d mc ms (.ref (gZ G + kb) :: As) N h post) (hG : GoodIn lw_all (ws_ y bytes maxL none)) (hini : Cond.initialized y.cls ∈ lw_all) (hl1 : Cond.methodLinkNest own index y host ∈ lw_tbl) (hin : Cond.instanceMethod y ∈ lw_all) (hy1 : y.name = "<init>") (hd4 : y.cls ≠ "java/lang/invoke/MethodHandle" ∧ y.cls ≠ "java/lang/invoke/VarHandle" ∧ (parseMethodDescriptor y.desc).map (fun d => d.parameters.length) = some n)
    (hR : d + 1 ≤ (xR x).frames ∧ 8 + (maxL + 11) + 39 * d ≤ (xR x).locals) (hf : a + mc ≤ (xR x).cells ∧ b + ms ≤ (xR x).slots) (hn : As.length = n) (hst : st0 = As.reverse ++ .ref (gZ G + kb) :: st) (hrest : (st.map fun v => v.category).sum ≤ 8) (hdg : decode cc pc = .ok (.invokespecial index, 3))
    (kk : ∀ v N' h', post v N' h' → V G x own cc nL Q (pc + 3) lv (v.toList ++ st) N' h' (a + mc) (b + ms)) : V G x own cc nL Q pc lv st0 N h a b := by
  intro C H locs ls w s l
  subst hst
  exact v_run (y := y) (bytes := bytes) (maxL := maxL) (d := d) (ret := none) (As := As) (free := AG G) (C := C) w s l (va_runIN (As := As) (rest := st) (host := host) C.1 hM ⟨va_cnB n C.1.2.2.2.2 hG rfl rfl rfl (C.2.2.2.1 _ hl1 rfl) (C.1.2.2.2.2 _ hini) hd4 hR, hy1, C.1.2.2.2.2 _ hin⟩ ⟨GW.blind, v_pre C w s⟩ rfl hn l.1 rfl (lv_room hrest) hdg hf) kk
theorem v_callSN {y : MethodName} {bytes : ByteArray} {maxL d mc ms index n : Nat} {host : String} {ret : Option FieldType} {As : List Value} (hM : CT G (xl x) y bytes maxL ret d mc ms As N h post) (hG : GoodIn lw_all (ws_ y bytes maxL ret)) (hini : Cond.initialized y.cls ∈ lw_all) (hl1 : Cond.methodLinkNest own index y host ∈ lw_tbl) (hin : Cond.static y ∈ lw_all) (hd4 : y.cls ≠ "java/lang/invoke/MethodHandle" ∧ y.cls ≠ "java/lang/invoke/VarHandle" ∧ (parseMethodDescriptor y.desc).map (fun d => d.parameters.length) = some n)
    (hR : d + 1 ≤ (xR x).frames ∧ 8 + (maxL + 11) + 39 * d ≤ (xR x).locals) (hf : a + mc ≤ (xR x).cells ∧ b + ms ≤ (xR x).slots) (hn : As.length = n) (hst : st0 = As.reverse ++ st) (hrest : (st.map fun v => v.category).sum ≤ 8) (hdg : decode cc pc = .ok (.invokestatic index, 3))
    (kk : ∀ v N' h', post v N' h' → V G x own cc nL Q (pc + 3) lv (v.toList ++ st) N' h' (a + mc) (b + ms)) : V G x own cc nL Q pc lv st0 N h a b := by
  intro C H locs ls w s l
  subst hst
  exact v_run (y := y) (bytes := bytes) (maxL := maxL) (d := d) (ret := ret) (As := As) (free := AG G) (C := C) w s l (va_runSN (As := As) (rest := st) (host := host) C.1 hM ⟨va_cnB n C.1.2.2.2.2 hG rfl rfl rfl (C.2.2.2.1 _ hl1 rfl) (C.1.2.2.2.2 _ hini) hd4 hR, C.1.2.2.2.2 _ hin, trivial⟩ ⟨GW.blind, v_pre C w s⟩ rfl hn l.1 rfl (lv_room hrest) hdg hf) kk
/-- Object.<init> -/
theorem v_objInit {index k : Nat} (hl1 : Cond.methodLink own index Lib.objectInit ∈ lw_all) (hf : 1 ≤ (xR x).frames) (hlo : (st.map fun v => v.category).sum + 12 ≤ (xR x).locals) (hd : decode cc pc = .ok (.invokespecial index, 3)) (kk : V G x own cc nL Q (pc + 3) lv st N h a b) : V G x own cc nL Q pc lv (.ref k :: st) N h a b := fun C H locs ls w s l =>
  W.objInit C.1.1 C.1.2.1 C.1.2.2.2.1 (C.1.2.2.2.2 _ hl1) (C.1.2.2.2.2 _ q90) (C.1.2.2.2.2 _ q91) rfl (by rw [C.1.2.2.1]; exact l.1) rfl hd hf (by show 2 * 0 + _ + _ ≤ _; omega) (kk C H locs ls w s l)
end VC
def pI (N : Nat) (f : Int32 → (Nat → va_E) → Prop) : Option Value → Nat → (Nat → va_E) → Prop := fun v N' h' => ∃ r : Int32, v = some (.int r) ∧ N' = N ∧ f r h'
def pV (N : Nat) (f : (Nat → va_E) → Prop) : Option Value → Nat → (Nat → va_E) → Prop := fun v N' h' => v = none ∧ N' = N ∧ f h'
def pA (N : Nat) (f : Value → (Nat → va_E) → Prop) : Option Value → Nat → (Nat → va_E) → Prop := fun v N' h' => ∃ r : Value, v = some r ∧ N' = N ∧ f r h'
