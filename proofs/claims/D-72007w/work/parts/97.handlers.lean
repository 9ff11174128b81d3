set_option maxRecDepth 100000
section VXH
variable {p : Program} {l : Launch} {e : Env} {R : Room} {s : State} {m : MethodId} {args : Array Value} {below : List Frame} {meth : Method} {c : Code} {T : State} {H : Heap} {locs : List Loc} {cells slots : Nat}
theorem vx_callVW (X : Stand p l e R s m args below meth c T locs cells slots) (hexec : p.tables.exec = Jvm.exec) {own C : String} {index : Nat} {y : MethodName} {bytes : ByteArray} {maxL : Nat} {ret : Option FieldType} {hh : List (Nat × Nat × Nat × Nat)}
    (hown : s.vm.findClass own = some m.cls) (hlink : (Cond.methodLink own index y).before args s = true) (hinst : (Cond.instanceMethod y).before args s = true) (hsel : (Cond.selects C y y).before args s = true)
    (hcode : (Cond.codeWith y bytes maxL ret hh).before args s = true) (hy : y.cls ≠ "java/lang/invoke/MethodHandle" ∧ y.cls ≠ "java/lang/invoke/VarHandle")
    {W9 : Nat} {Pre : Pt → Array Value → Prop} {Post : Pt → Array Value → Option Value → Pt → Prop} (hK : Back l R p e below s args y 3 W9 Pre Post)
    {b : Addr} {cellB : Cell} (hcell : T.heap[b]? = some cellB) (hobj : cellB.vm.isStatics = false) (hcls : s.vm.findClass C = some cellB.cls)
    {g : JFrame} (hg : g.method = m) (hsize : g.locals.size = c.maxLocals) {argsL rest : List Value} (hlen : ∀ sig, parseMethodDescriptor y.desc = some sig → argsL.length = sig.parameters.length)
    (hstack : g.stack = argsL.reverse ++ .ref b :: rest) (hW : 2 * g.monitorRoom + (rest.map fun v => v.category).sum ≤ W9) (hdg : decode c.code g.pc = .ok (.invokevirtual index, 3))
    (hpre : ∀ vm₁, s.WarmedH vm₁ → Pre ⟨T.setVm vm₁, locs, cells, slots⟩ (Value.ref b :: argsL).toArray) :
    ∃ (v : Option Value) (vm₁ : Vm) (B : Pt), s.WarmedH vm₁ ∧ Stand p l e R s m args below meth c B.U B.locs B.cells B.slots ∧ Post ⟨T.setVm vm₁, locs, cells, slots⟩ (Value.ref b :: argsL).toArray v B ∧
      ∀ target, Steps p.tables e below (B.U.setTop { g with pc := g.pc + 3, stack := v.toList ++ rest }) target → Steps p.tables e below (T.setTop g) target := by
  obtain ⟨mk, methM, hnamed, hmethM, hstM, habM⟩ := Cond.instanceMethod_spec hinst
  obtain ⟨m8, methM', cM, hn8, hmethM', -, -, -, -, -, -, hsigM⟩ := Cond.codeWith_spec hcode
  cases Option.some.inj (hn8.symm.trans hnamed)
  cases hmethM.symm.trans hmethM'
  obtain ⟨c2, r2, m2, q1, q2, q3, q4, kP, hkP, hkPi⟩ := Cond.selects_spec hsel
  cases hcls.symm.trans q1
  cases (State.methodFound?_of_named hnamed hy).symm.trans q2
  cases hnamed.symm.trans q3
  have hselP : selectMethod e.platform s.vm cellB.cls mk = .method mk := by rw [Launch.admits_selectMethod X.admits]; exact q4
  obtain ⟨vm₁, X₁, hstep₁⟩ := X.invokevirtual hexec hown hlink hnamed hmethM hstM hkP hkPi hy (a := b) (cell := cellB) hcell
    (fun z h => by rw [h] at hobj; cases hobj) hselP hmethM habM hkP hkPi (g := g) hg (argsL := argsL) (rest := rest) (hlen _ hsigM) hstack hdg
  obtain ⟨v, B, X', hpost, hsteps⟩ := hK m meth c ⟨T.setVm vm₁, locs, cells, slots⟩ { g with stack := rest } (.invokevirtual index) mk (Value.ref b :: argsL).toArray X₁ hg hsize hdg hW (X₁.named hnamed) (hpre vm₁ X₁.warmed)
  exact ⟨v, vm₁, B, X₁.warmed, X', hpost, fun target h => hstep₁ _ fun acts => by rw [doInvoke_state]; exact hsteps.trans h⟩
abbrev vx_CVW (R : Room) (s : State) (args : Array Value) (own C : String) (index : Nat) (y : MethodName) (bytes : ByteArray) (maxL : Nat) (ret : Option FieldType) (hh : List (Nat × Nat × Nat × Nat)) (ws : List Cond) (rm : Room) (mc ms n : Nat) : Prop :=
  (rm.cells = mc ∧ rm.slots = ms ∧ rm.frames + 1 ≤ R.frames ∧ 8 + (maxL + 11) + rm.locals ≤ R.locals ∧ (∀ w ∈ ws, ∀ (a' : Array Value) (U : State), s.WarmedH U.vm → w.before a' U = true) ∧ Cond.codeWith y bytes maxL ret hh ∈ ws) ∧
  (Cond.codeWith y bytes maxL ret hh).before args s = true ∧ (Cond.initialized y.cls).before args s = true ∧ (y.cls ≠ "java/lang/invoke/MethodHandle" ∧ y.cls ≠ "java/lang/invoke/VarHandle") ∧
  (∀ sig, parseMethodDescriptor y.desc = some sig → n = sig.parameters.length) ∧ (Cond.methodLink own index y).before args s = true ∧ (Cond.instanceMethod y).before args s = true ∧ (Cond.selects C y y).before args s = true
theorem vx_cwVW {own C : String} {index maxL mc ms : Nat} {y : MethodName} {bytes : ByteArray} {ret : Option FieldType} {hh : List (Nat × Nat × Nat × Nat)} {Ts ws ws' : List Cond} {rm : Room} (n : Nat) (ht : ∀ w ∈ Ts, w.before args s = true) (hT : GoodIn Ts (wsV own index C y ws)) (hw : ws = Cond.codeWith y bytes maxL ret hh :: ws') (hrc : rm.cells = mc) (hrs : rm.slots = ms)
    (hd : y.cls = C ∧ y.cls ≠ "java/lang/invoke/MethodHandle" ∧ y.cls ≠ "java/lang/invoke/VarHandle" ∧ (parseMethodDescriptor y.desc).map (fun d => d.parameters.length) = some n) (hR : rm.frames + 1 ≤ R.frames ∧ 8 + (maxL + 11) + rm.locals ≤ R.locals) :
    vx_CVW R s args own C index y bytes maxL ret hh ws rm mc ms n := by
  obtain ⟨hC, hd⟩ := hd
  subst hC
  have ok : ∀ w ∈ wsV own index y.cls y ws, w.before args s = true := fun w h => ht w (hT w h).1
  have hG : GoodIn Ts ws := fun w h => hT w (by unfold wsV; exact List.mem_append_right _ h)
  have hc : Cond.codeWith y bytes maxL ret hh ∈ ws := by rw [hw]; exact List.mem_cons_self
  refine ⟨⟨hrc, hrs, hR.1, hR.2, pay_in ht hG, hc⟩, ht _ (hG _ hc).1, ok _ (by simp [wsV]), ⟨hd.1, hd.2.1⟩, fun sig h => ?_, ok _ (by simp [wsV]), ok _ (by simp [wsV]), ok _ (by simp [wsV])⟩
  have h2 := hd.2.2
  rw [h] at h2
  exact (Option.some.inj h2).symm
theorem vx_runVW {y : MethodName} {bytes cc : ByteArray} {maxL nL mc ms n index : Nat} {ret : Option FieldType} {hh : List (Nat × Nat × Nat × Nat)} {ws : List Cond} {rm : Room} {Pc : Array Value → State → Prop} {Qc : Array Value → State → Outcome → State → Prop} {free : Addr → Prop} {Ts : List Cond} {own C : String} {b : Addr} {As rest : List Value} {g : JFrame}
    (S : CallFix p m c cc nL s args Ts own) (hM : Met l y ws rm Pc Qc mc ms free) (cw : vx_CVW R s args own C index y bytes maxL ret hh ws rm mc ms n) (hp : PreV s H C b Pc As)
    (hg : g.method = m) (hn : As.length = n) (hsize : g.locals.size = nL) (hstack : g.stack = As.reverse ++ .ref b :: rest) (hW : 2 * g.monitorRoom + (rest.map fun v => v.category).sum ≤ 8) (hdg : decode cc g.pc = .ok (.invokevirtual index, 3)) (hf : cells + mc ≤ R.cells ∧ slots + ms ≤ R.slots) :
    va_Run p l e R s m args below meth c H locs cells slots mc ms g rest (Qc (Value.ref b :: As).toArray) free := by
  obtain ⟨⟨hrc, hrs, hfr, hlo, hws, hcw⟩, hcode, hini, hy, hlen, hl, hin, hse⟩ := cw
  have hK : Back l R p e below s args y 3 8 (PreOf R mc ms Pc) (PostOf Qc mc ms free) := va_backW (hh := hh) (bytes := bytes) (maxL := maxL) (ret := ret) hM hp.1 hrc hrs hfr hlo hws hcw (fun a' U hW => word_at hW (Or.inl (by first | rfl | simp [Cond.onTables, Cond.keeps, Cond.steady])) hini)
  obtain ⟨hx, hb, hml, ho, -⟩ := S
  obtain ⟨-, ⟨cellB, hcB, hoB, hclB⟩, hPc⟩ := hp
  intro T hT X
  obtain ⟨v, vm₁, ⟨U', l2, c2, s2⟩, hW₁, X', ⟨g', mk, t, L, e1, e2, hq, h1, hL, h2, h3⟩, st⟩ := vx_callVW X hx (C := C) (hh := hh) (bytes := bytes) (maxL := maxL) (ret := ret) ho hl hin hse hcode hy hK (by rw [hT]; exact hcB) hoB hclB hg (hsize.trans hml.symm) (argsL := As) (rest := rest) (fun sig h => hn.trans (hlen sig h)) hstack hW (by rw [hb]; exact hdg)
    (fun vm₁ hW₁ => ⟨hf.1, hf.2, hPc (T.setVm vm₁) hT hW₁⟩)
  dsimp only [Pt.U, Pt.locs, Pt.cells, Pt.slots] at X' e1 e2 h1 h2 h3 st
  subst h1; subst h2; subst h3
  exact ⟨v, (T.setVm vm₁).calling g' mk (Value.ref b :: As).toArray, t, U', L, hT, X', hL, e1, e2, hq, st⟩

end VXH
theorem Met_ofWH {l : Launch} {y : MethodName} {ws ws' : List Cond} {rm : Room} {Pc : Array Value → State → Prop} {Qc : Array Value → State → Outcome → State → Prop} {mc ms : Nat} {free : Addr → Prop} {cc : ByteArray} {maxL : Nat} {ret : Option FieldType} {hh : List (Nat × Nat × Nat × Nat)}
    (hy : plainName y.cls = true) (hw : ws = Cond.codeWith y cc maxL ret hh :: ws')
    (body : ∀ p e s m args below meth c s₁, BodyLoose p l y (headSpec ws rm) cc maxL ret e s m args below meth c s₁ → c.maxLocals = maxL → c.exceptionTable.toList = tableOf hh → Pc args s →
      W p l e (headSpec ws rm).room s m args below meth c s.heap [] 0 0 (MQ below Qc args s mc ms free) (entryFrame m args maxL)) : Met l y ws rm Pc Qc mc ms free := by
  refine MetFree.of_bodyS (code := cc) (maxLocals := maxL) (ret := ret) hy ?_ ?_
  · intro args s m h hn
    obtain ⟨m9, meth, c, hn9, h1, h2, h3, h4, -, h5, h6, -⟩ := Cond.codeWith_spec (atoms_spec (ws := ws) h _ (by rw [hw]; exact List.mem_cons_self))
    cases hn.symm.trans hn9
    exact ⟨meth, c, h1, h2, h3, h4, h5, h6⟩
  · intro p e s m args below meth c s₁ B hml hP _
    have hh0 : s₁.heap = s.heap := by rw [B.state]; rfl
    have ht := vq_table (x := y) (hh := hh) (bytes := cc) (maxL' := maxL) (ret' := ret) B (atoms_spec (ws := ws) B.pre _ (by rw [hw]; exact List.mem_cons_self))
    obtain ⟨t, a1, o, b1, b2, b3⟩ := body p e s m args below meth c s₁ B hml ht hP s₁ hh0 (Stand.of_body B)
    exact ⟨t, o, a1, b1, b2, ⟨b3.1, b3.2⟩⟩
/-! contracts of methods with handlers -/
def CTW (G : GT) (l : Launch) (y : MethodName) (cc : ByteArray) (nL : Nat) (ret : Option FieldType) (hh : List (Nat × Nat × Nat × Nat)) (d mc ms : Nat) (As : List Value) (N : Nat) (h : Nat → va_E) (post : Option Value → Nat → (Nat → va_E) → Prop) : Prop :=
  Met l y (wsW_ y cc nL ret hh) (RM d mc ms) (va_Pc As (GW G N h)) (QG G post) mc ms (AG G)
theorem CTW.mk {G : GT} {l : Launch} {y : MethodName} {cc : ByteArray} {nL : Nat} {ret : Option FieldType} {hh : List (Nat × Nat × Nat × Nat)} {d mc ms : Nat} {As : List Value} {N : Nat} {h : Nat → va_E} {post : Option Value → Nat → (Nat → va_E) → Prop} (own : String) (lv : List (Nat × Value)) (ho : y.cls = own) (hy : plainName y.cls = true) (hlv : lv_args 0 As = lv) (hlen : (lg_sl As).length ≤ nL)
    (body : ∀ x : VX, xR x = RM d mc ms → xl x = l → (xM x).sig.returnType = ret → (xM x).name = y.name → (xc x).exceptionTable.toList = tableOf hh → V G x own cc nL (QQ G x post mc ms) 0 lv [] N h 0 0) : CTW G l y cc nL ret hh d mc ms As N h post := by
  subst ho; subst hlv
  refine Met_ofWH (cc := cc) (maxL := nL) (ret := ret) (hh := hh) hy rfl ?_
  intro p e s m args below meth c s₁ B hml htb hv
  obtain ⟨rfl, hK, hN, hR, hF, hW⟩ := hv
  have hts := atoms_spec (ws := wsW_ y cc nL ret hh) B.pre
  have hts : ∀ w ∈ lw_all, w.before _ s = true := fun w h => hts w (List.mem_cons_of_mem _ h)
  have hown : s.vm.findClass y.cls = some m.cls := findClass_of_methodNamed B.named
  have hl := lv_entry As (n := nL) hlen
  rw [lg_entry_eq]
  generalize (lg_sl As ++ List.replicate (nL - (lg_sl As).length) Slot.unset).toArray = ls at hl ⊢
  have hin : meth.name = y.name := (name_of_methodNamed B.named B.method).1
  exact body (p, l, e, RM d mc ms, s, m, _, below, meth, c) rfl rfl B.returns hin htb ⟨⟨B.exec, B.bytes, hml, hown, hts⟩, B.notSynchronized, hK, hN, hR, hF, by rw [hW.1]; exact Nat.le_add_right _ _⟩ s.heap [] ls hW va_S.rf hl
section VH
variable {G : GT} {x : VX} {own : String} {cc : ByteArray} {nL : Nat} {Q : State → Prop} {lv lv' : List (Nat × Value)} {st st0 : List Value} {N : Nat} {h : Nat → va_E} {a b pc : Nat} {post : Option Value → Nat → (Nat → va_E) → Prop} {px : Nat → Nat → (Nat → va_E) → Prop} {mc ms : Nat}
/-- a call whose throw is caught here -/
theorem v_callC {y : MethodName} {bytes : ByteArray} {maxL d index n kb ci : Nat} {ret : Option FieldType} {C : String} {r : vw_C} {fs As : List Value} {e : ExceptionTableEntry} (hM : CTX G (xl x) y bytes maxL ret d mc ms (.ref (gZ G + kb) :: As) N h post px) (hV : GoodIn lw_all (wsV own index C y (ws_ y bytes maxL ret))) (hd4 : y.cls = C ∧ y.cls ≠ "java/lang/invoke/MethodHandle" ∧ y.cls ≠ "java/lang/invoke/VarHandle" ∧ (parseMethodDescriptor y.desc).map (fun d => d.parameters.length) = some n)
    (hR : d + 1 ≤ (xR x).frames ∧ 8 + (maxL + 11) + 39 * d ≤ (xR x).locals) (hf : a + mc ≤ (xR x).cells ∧ b + ms ≤ (xR x).slots) (hkb : kb < N) (he : h kb = .inr (ci, fs)) (hc : clX[ci]? = some r) (hrC : r.1 = C) (hn : As.length = n) (hst : st0 = As.reverse ++ .ref (gZ G + kb) :: st) (hrest : (st.map fun v => v.category).sum ≤ 8) (hdg : decode cc pc = .ok (.invokevirtual index, 3))
    (htb : (xc x).exceptionTable.toList = [e]) (hcv : covers e pc = true) (h0 : e.catchType ≠ 0) (hlk : Cond.classLink own e.catchType wrN ∈ lw_all) (hca : Cond.castable wrN wrN ∈ lw_tbl)
    (kx : ∀ q N' h', px q N' h' → V G x own cc nL Q e.handlerPc lv [.ref q] N' h' (a + mc) (b + ms))
    (kk : ∀ v N' h', post v N' h' → V G x own cc nL Q (pc + 3) lv (v.toList ++ st) N' h' a b) : V G x own cc nL Q pc lv st0 N h a b := by
  intro C H locs ls w s l
  subst hrC; subst hst
  intro T hT X
  have keep : ∀ {st₀ t T' : State} {L : List Loc}, st₀.heap = H → T'.heap = t.heap → (∀ q ∈ L, AG G q.base) → va_F (AG G) st₀ t → va_S (AG G) (xs x).heap T'.heap (locs ++ L) := fun {st₀ t T' L} h0 e1 hL hF => ⟨Nat.le_trans s.1 (by rw [e1, ← h0]; exact hF.1), fun q h1 h2 => by rw [e1, hF.2 q (by rw [h0]; exact Nat.lt_of_lt_of_le h1 s.1) h2, h0]; exact s.2.1 q h1 h2, fun q hq => by
      rcases List.mem_append.mp hq with h | h
      · exact s.2.2 q h
      · exact hL q h⟩
  rcases vq_runV (As := As) (rest := st) C.1 hM (cwV n C.1.2.2.2.2 hV rfl rfl rfl hd4 hR) ⟨GW.blind, va_recv C.2.2.1 w.2 hc (hp_e hkb he), v_pre C w s⟩ rfl hn l.1 rfl (lv_room hrest) hdg hf T hT X with ⟨v, st₀, t, T', L, h0, X', hL, e1, e2, ⟨⟨v', N', h', hv, hp, hK, hN, hR, hS, hW⟩, hF⟩, stp⟩ | ⟨q, st₀, t, T', L, E, ce, h0', X', hL, e1, e2, ⟨rfl, ⟨N', h', hp, hG⟩, hF⟩, hce, hcvm, hcl, stp⟩
  · cases hv
    obtain ⟨t2, a1, b1⟩ := kk v N' h' hp C T'.heap (locs ++ L) ls (by rw [e1]; exact hW) (keep h0 e1 hL hF) l T' rfl X'
    exact ⟨t2, stp t2 a1, b1⟩
  · have s' := keep h0' e1 hL hF
    have w' : WH G N' h' T'.heap := by rw [e1]; exact hG.2.2.2.2
    obtain ⟨t2, a1, b1⟩ := vq_catch (E := wrN) (name := wrN) (ce := ce) (q := q) (pc := pc) (ls := ls) (rest := st) (H := T'.heap) C.1.2.2.2.1 [] e [] htb (fun z hz => by cases hz) hcv h0 (C.1.2.2.2.2 _ hlk) (show (Cond.castable wrN wrN).before (xa x) (xs x) = true from C.2.2.2.1 _ hca rfl) (by rw [e1]; exact hce) hcvm hcl (kx q N' h' hp C T'.heap (locs ++ L) ls w' s' l) T' rfl X'
    exact ⟨t2, stp.trans a1, b1⟩
/-- a call of a method with handlers -/
theorem v_callVW {y : MethodName} {bytes : ByteArray} {maxL d index n kb ci : Nat} {ret : Option FieldType} {hh : List (Nat × Nat × Nat × Nat)} {C : String} {r : vw_C} {fs As : List Value} (hM : CTW G (xl x) y bytes maxL ret hh d mc ms (.ref (gZ G + kb) :: As) N h post) (hV : GoodIn lw_all (wsV own index C y (wsW_ y bytes maxL ret hh))) (hd4 : y.cls = C ∧ y.cls ≠ "java/lang/invoke/MethodHandle" ∧ y.cls ≠ "java/lang/invoke/VarHandle" ∧ (parseMethodDescriptor y.desc).map (fun d => d.parameters.length) = some n)
    (hR : d + 1 ≤ (xR x).frames ∧ 8 + (maxL + 11) + 39 * d ≤ (xR x).locals) (hf : a + mc ≤ (xR x).cells ∧ b + ms ≤ (xR x).slots) (hkb : kb < N) (he : h kb = .inr (ci, fs)) (hc : clX[ci]? = some r) (hrC : r.1 = C) (hn : As.length = n) (hst : st0 = As.reverse ++ .ref (gZ G + kb) :: st) (hrest : (st.map fun v => v.category).sum ≤ 8) (hdg : decode cc pc = .ok (.invokevirtual index, 3))
    (kk : ∀ v N' h', post v N' h' → V G x own cc nL Q (pc + 3) lv (v.toList ++ st) N' h' (a + mc) (b + ms)) : V G x own cc nL Q pc lv st0 N h a b := by
  intro C H locs ls w s l
  subst hrC; subst hst
  exact v_run (y := y) (bytes := bytes) (maxL := maxL) (d := d) (ret := ret) (As := As) (free := AG G) (C := C) w s l (vx_runVW (As := As) (rest := st) C.1 hM (vx_cwVW n C.1.2.2.2.2 hV rfl rfl rfl hd4 hR) ⟨GW.blind, va_recv C.2.2.1 w.2 hc (hp_e hkb he), v_pre C w s⟩ rfl hn l.1 rfl (lv_room hrest) hdg hf) kk
end VH
