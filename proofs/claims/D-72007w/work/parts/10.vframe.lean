set_option maxRecDepth 100000
/-! THE WORLD: all cells made since the start z of the run, cell k at z + k, contents h k; V: the judgement W with context, heap and locals folded in -/
abbrev GT : Type := va_G × (Nat → ClassId) × Nat × (Nat → Nat) × (Nat → Nat)
abbrev gA (G : GT) : Nat → ClassId := G.2.1
abbrev gZ (G : GT) : Nat := G.2.2.1
abbrev gI (G : GT) : Nat → Nat := G.2.2.2.1
abbrev gX (G : GT) : Nat → Nat := G.2.2.2.2
def AG (G : GT) : Nat → Prop := fun q => gZ G ≤ q
abbrev clX : List vw_C := [(RX0, TX0, 15), (RX1, TX1, 9), (RX2, TX2, 18), (RX3, TX3, 34), (RX4, TX4, 6), (RX5, TX5, 7), (RJ0, TJ0, 3), (RJ2, TJ2, 3)]
abbrev tyG (G : GT) : List (ClassId × FieldType) := [(gA G 0, .int), (gA G 1, .long), (gA G 2, .boolean), (gA G 3, .byte), (gA G 4, .array .int), (gA G 5, .object "java/lang/Object"), (gA G 6, .object "ScopeTasks$Run")]
def isNw (w : Cond) : Bool := match w with
  | .fieldLinkNest .. => true
  | .methodLinkNest .. => true
  | .castable .. => true
  | .declares .. => true
  | _ => false
def NW (U : State) : Prop := ∀ w ∈ lw_tbl, isNw w = true → va_Nw w U
theorem isNw_tab {w : Cond} (h : isNw w = true) : w.onTables = true := by
  cases w <;> first | rfl | (exact absurd h (by decide)) | (simp [isNw] at h)
theorem NW.same {u U : State} (e : u.vm = U.vm) (h : NW u) : NW U := fun w hw hi => va_Nw.same (isNw_tab hi) e (h w hw hi)
theorem NW.warm {s U : State} (hW : s.WarmedH U.vm) (h : NW s) : NW U := by
  intro w hw hi
  have h1 := h w hw hi
  cases w <;> first | exact va_Nw.warmF hW h1 | exact va_Nw.warmM hW h1 | exact va_Nw.warmC hW h1 | exact va_Nw.warmD hW h1 | (simp [isNw] at hi)
theorem NW.of {A : Array Value} {U : State} (h : ∀ w ∈ lw_tbl, w.before A U = true) : NW U := fun w hw hi => va_Nw.of (isNw_tab hi) (h w hw)
theorem NW.use {A : Array Value} {U : State} (h : NW U) {w : Cond} (hw : w ∈ lw_tbl) (hi : isNw w = true) : w.before A U = true := va_Nw.use (isNw_tab hi) (h w hw hi)
/-- statics and constants, below z: read off the start -/
def SF (G : GT) (U : State) (H : Heap) : Prop :=
  va_Z "java/util/BitSet" "$assertionsDisabled" "Z" (.int 1) (AG G) U H ∧
  va_Z "java/lang/Integer$IntegerCache" "high" "I" (.int 127) (AG G) U H ∧
  va_Z "java/lang/Integer$IntegerCache" "cache" "[Ljava/lang/Integer;" (.ref (gX G 0)) (AG G) U H ∧
  va_T (.object "java/lang/Integer") (gX G 0) 256 (fun j => .ref (gI G j)) (AG G) U H ∧ vb_C (gI G) (AG G) U H ∧
  va_Z "java/lang/String" "COMPACT_STRINGS" "Z" (.int 1) (AG G) U H ∧
  vk_S 1 [11] [[119, 98, 106, 120, 102, 114, 116, 100, 115, 99, 103]] (fun _ => gX G 1) (fun _ => gX G 2) (AG G) U H ∧
  va_Zq "java/lang/Throwable" "UNASSIGNED_STACK" "[Ljava/lang/StackTraceElement;" (AG G) U H ∧
  va_Zq "java/lang/Throwable" "SUPPRESSED_SENTINEL" "Ljava/util/List;" (AG G) U H
theorem SF.moved {G : GT} {u U : State} {H : Heap} (e : u.vm.Alike U.vm) (h : SF G u H) : SF G U H := by
  obtain ⟨a, b, c, d, f, g, i, j, k⟩ := h
  exact ⟨a.moved e, b.moved e, c.moved e, d.moved e, f.moved e, g.moved e, i.moved e, j.moved e, k.moved e⟩
theorem SF.kept {G : GT} {U : State} {H H1 : Heap} (h : SF G U H) (q : ∀ a : Nat, a < H.size → ¬ AG G a → H1[a]? = H[a]?) : SF G U H1 := by
  obtain ⟨a, b, c, d, f, g, i, j, k⟩ := h
  exact ⟨a.kept q, b.kept q, c.kept q, d.kept q, f.kept q, g.kept q, i.kept q, j.kept q, k.kept q⟩
/-- arrays of int arrays -/
def AOI (U : State) : Prop := (Cond.arrayOver (.array .int)).before #[] U = true
def sR (G : GT) (U : State) : Prop := vk_R "ScopeTasks$Reader" 49 "wbjxfrtdscg" (gX G 1) U ∧ va_AO "java/lang/Object" U ∧ va_AO "ScopeTasks$Run" U ∧ AOI U
theorem sR.warm {G : GT} {s U : State} (hW : s.WarmedH U.vm) (h : sR G s) : sR G U := ⟨h.1.warm hW, h.2.1.moved hW.alike, h.2.2.1.moved hW.alike, over_moved hW.alike h.2.2.2⟩
def hp (z N : Nat) (h : Nat → va_E) : va_W := (List.range N).map (fun k => (z + k, h k))
def hu (h : Nat → va_E) (k : Nat) (e : va_E) : Nat → va_E := fun j => if j = k then e else h j
theorem hp_at {z N k : Nat} {h : Nat → va_E} (hk : k < N) : (hp z N h)[k]? = some (z + k, h k) := by simp [hp, hk]
theorem hp_in {z N k : Nat} {h : Nat → va_E} {q : Nat × va_E} (hq : (hp z N h)[k]? = some q) : k < N ∧ q = (z + k, h k) := by
  have hl : k < N := by
    have := (List.getElem?_eq_some_iff.mp hq).1
    simpa [hp] using this
  rw [hp_at hl] at hq
  exact ⟨hl, (Option.some.inj hq).symm⟩
theorem hp_set {z N k : Nat} {h : Nat → va_E} {e : va_E} (hk : k < N) : (hp z N h).set k (z + k, e) = hp z N (hu h k e) := by
  apply List.ext_getElem?
  intro i
  by_cases hi : i < N
  · by_cases hik : i = k
    · subst hik
      rw [List.getElem?_set_self (by simp [hp, hi]), hp_at hi]
      simp [hu]
    · rw [List.getElem?_set_ne (fun q => hik q.symm), hp_at hi, hp_at hi]
      simp [hu, hik]
  · rw [List.getElem?_eq_none (by simp [hp]; omega), List.getElem?_eq_none (by simp [hp]; omega)]
theorem hp_push {z N : Nat} {h : Nat → va_E} {e : va_E} : hp z N h ++ [(z + N, e)] = hp z (N + 1) (hu h N e) := by
  unfold hp
  rw [List.range_succ, List.map_append]
  congr 1
  · apply List.map_congr_left
    intro k hk
    have : k < N := List.mem_range.mp hk
    simp [hu, Nat.ne_of_lt this]
  · simp [hu]
theorem hp_D {z N : Nat} {h : Nat → va_E} {A : Nat → Prop} (hA : ∀ q, z ≤ q → A q) : va_D A (hp z N h) := by
  refine ⟨fun i j p q hi hj e => ?_, fun k q hk => ?_⟩
  · have a := (hp_in hi).2
    have b := (hp_in hj).2
    subst a; subst b
    exact Nat.add_left_cancel e
  · have a := (hp_in hk).2
    subst a
    exact hA _ (Nat.le_add_right _ _)
theorem hp_P {D : va_G} {z N : Nat} {h : Nat → va_E} {H : Heap} : va_P D clX (hp z N h) H ↔ ∀ k, k < N → va_at D clX (z + k, h k) H := by
  constructor
  · intro P k hk
    exact P k _ (hp_at hk)
  · intro P k q hq
    obtain ⟨a, b⟩ := hp_in hq
    subst b
    exact P k a
def WH (G : GT) (N : Nat) (h : Nat → va_E) (H : Heap) : Prop := H.size = gZ G + N ∧ va_P G.1 clX (hp (gZ G) N h) H
theorem WH.ext {G : GT} {N : Nat} {h h' : Nat → va_E} {H : Heap} (w : WH G N h H) (e : ∀ k, k < N → h' k = h k) : WH G N h' H := by
  refine ⟨w.1, hp_P.mpr fun k hk => ?_⟩
  rw [e k hk]
  exact hp_P.mp w.2 k hk
def GW (G : GT) (N : Nat) (h : Nat → va_E) (U : State) : Prop := va_K G.1 clX (tyG G) U ∧ NW U ∧ sR G U ∧ SF G U U.heap ∧ WH G N h U.heap
abbrev VX : Type := Program × Launch × Env × Room × State × MethodId × Array Value × List Frame × Method × Code
abbrev xp (x : VX) : Program := x.1
abbrev xl (x : VX) : Launch := x.2.1
abbrev xe (x : VX) : Env := x.2.2.1
abbrev xR (x : VX) : Room := x.2.2.2.1
abbrev xs (x : VX) : State := x.2.2.2.2.1
abbrev xm (x : VX) : MethodId := x.2.2.2.2.2.1
abbrev xa (x : VX) : Array Value := x.2.2.2.2.2.2.1
abbrev xb (x : VX) : List Frame := x.2.2.2.2.2.2.2.1
abbrev xM (x : VX) : Method := x.2.2.2.2.2.2.2.2.1
abbrev xc (x : VX) : Code := x.2.2.2.2.2.2.2.2.2
def Cx (G : GT) (x : VX) (own : String) (cc : ByteArray) (nL : Nat) : Prop :=
  CallFix (xp x) (xm x) (xc x) cc nL (xs x) (xa x) lw_all own ∧ (xM x).locks = false ∧ va_K G.1 clX (tyG G) (xs x) ∧ NW (xs x) ∧ sR G (xs x) ∧ SF G (xs x) (xs x).heap ∧ gZ G ≤ (xs x).heap.size
def V (G : GT) (x : VX) (own : String) (cc : ByteArray) (nL : Nat) (Q : State → Prop) (pc : Nat) (lv : List (Nat × Value)) (st : List Value) (N : Nat) (h : Nat → va_E) (k n : Nat) : Prop :=
  Cx G x own cc nL → ∀ (H : Heap) (locs : List Loc) (ls : Array Slot), WH G N h H → va_S (AG G) (xs x).heap H locs → lv_has ls nL lv → W (xp x) (xl x) (xe x) (xR x) (xs x) (xm x) (xa x) (xb x) (xM x) (xc x) H locs k n Q (F0 (xm x) pc ls st)
theorem hA_of {G : GT} {s : State} (h : gZ G ≤ s.heap.size) : ∀ q, s.heap.size ≤ q → AG G q := fun _ hq => Nat.le_trans h hq
section VR
variable {G : GT} {x : VX} {own : String} {cc : ByteArray} {nL : Nat} {Q : State → Prop} {lv lv' : List (Nat × Value)} {st : List Value} {N : Nat} {h : Nat → va_E} {a b : Nat}
theorem v_sub {pc : Nat} (ks : List Nat) (hl : lv_pick lv ks = lv') (kk : V G x own cc nL Q pc lv' st N h a b) : V G x own cc nL Q pc lv st N h a b := fun C H locs ls w s l => kk C H locs ls w s (lv_sub l ks hl)
theorem v_eq {pc pc' : Nat} {st' : List Value} {h' : Nat → va_E} (e1 : pc = pc') (e2 : st = st') (e3 : h = h') (kk : V G x own cc nL Q pc' lv st' N h' a b) : V G x own cc nL Q pc lv st N h a b := by subst e1; subst e2; subst e3; exact kk
theorem v_h {pc : Nat} {h' : Nat → va_E} (e : ∀ k, k < N → h' k = h k) (kk : V G x own cc nL Q pc lv st N h' a b) : V G x own cc nL Q pc lv st N h a b := fun C H locs ls w s l => kk C H locs ls (w.ext e) s l
theorem v_topi {pc : Nat} {u v : Int32} (e : u = v) (kk : V G x own cc nL Q pc lv (.int v :: st) N h a b) : V G x own cc nL Q pc lv (.int u :: st) N h a b := by subst e; exact kk
theorem v_topl {pc : Nat} {u v : Int64} (e : u = v) (kk : V G x own cc nL Q pc lv (.long v :: st) N h a b) : V G x own cc nL Q pc lv (.long u :: st) N h a b := by subst e; exact kk
theorem v_top {pc : Nat} {u v : Value} (e : u = v) (kk : V G x own cc nL Q pc lv (v :: st) N h a b) : V G x own cc nL Q pc lv (u :: st) N h a b := by subst e; exact kk
theorem v_widen {pc k n : Nat} (h1 : a ≤ k) (h2 : b ≤ n) (kk : V G x own cc nL Q pc lv st N h k n) : V G x own cc nL Q pc lv st N h a b := fun C H locs ls w s l => W.widen h1 h2 (kk C H locs ls w s l)

theorem v_iload_n {pc : Nat} {k : Fin 4} {i : Nat} {v : Int32} (j : Nat) (hd : decode cc pc = .ok (.iload_n k, 1)) (hi : (k : Nat) = i) (hl : lv[j]? = some (i, .int v)) (kk : V G x own cc nL Q (pc + 1) lv (.int v :: st) N h a b) : V G x own cc nL Q pc lv (st) N h a b := fun C H locs ls w s l => lv_iload_n C.1.1 C.1.2.1 hd hi (lv_at l j hl) (kk C H locs ls w s l)
theorem v_iload {pc : Nat} {i : Nat} {v : Int32} (j : Nat) (hd : decode cc pc = .ok (.iload i, 2)) (hl : lv[j]? = some (i, .int v)) (kk : V G x own cc nL Q (pc + 2) lv (.int v :: st) N h a b) : V G x own cc nL Q pc lv (st) N h a b := fun C H locs ls w s l => lv_iload C.1.1 C.1.2.1 hd (lv_at l j hl) (kk C H locs ls w s l)
theorem v_lload_n {pc : Nat} {k : Fin 4} {i : Nat} {v : Int64} (j : Nat) (hd : decode cc pc = .ok (.lload_n k, 1)) (hi : (k : Nat) = i) (hl : lv[j]? = some (i, .long v)) (kk : V G x own cc nL Q (pc + 1) lv (.long v :: st) N h a b) : V G x own cc nL Q pc lv (st) N h a b := fun C H locs ls w s l => lv_lload_n C.1.1 C.1.2.1 hd hi (lv_at l j hl) (kk C H locs ls w s l)
theorem v_aload_n {pc : Nat} {k : Fin 4} {i : Nat} {v : Nat} (j : Nat) (hd : decode cc pc = .ok (.aload_n k, 1)) (hi : (k : Nat) = i) (hl : lv[j]? = some (i, .ref v)) (kk : V G x own cc nL Q (pc + 1) lv (.ref v :: st) N h a b) : V G x own cc nL Q pc lv (st) N h a b := fun C H locs ls w s l => lv_aload_n C.1.1 C.1.2.1 hd hi (lv_at l j hl) (kk C H locs ls w s l)
theorem v_aload {pc : Nat} {i : Nat} {v : Nat} (j : Nat) (hd : decode cc pc = .ok (.aload i, 2)) (hl : lv[j]? = some (i, .ref v)) (kk : V G x own cc nL Q (pc + 2) lv (.ref v :: st) N h a b) : V G x own cc nL Q pc lv (st) N h a b := fun C H locs ls w s l => lv_aload C.1.1 C.1.2.1 hd (lv_at l j hl) (kk C H locs ls w s l)
theorem v_aload_nN {pc : Nat} {k : Fin 4} {i : Nat} (j : Nat) (hd : decode cc pc = .ok (.aload_n k, 1)) (hi : (k : Nat) = i) (hl : lv[j]? = some (i, .null)) (kk : V G x own cc nL Q (pc + 1) lv (.null :: st) N h a b) : V G x own cc nL Q pc lv (st) N h a b := fun C H locs ls w s l => lv_aload_nN C.1.1 C.1.2.1 hd hi (lv_at l j hl) (kk C H locs ls w s l)
theorem v_istore_n {pc : Nat} {k : Fin 4} {i : Nat} {v : Int32} (hd : decode cc pc = .ok (.istore_n k, 1)) (hi : (k : Nat) = i) (hn : i < nL) (hl : (i, Value.int v) :: lv.filter (fun q => !(q.1 == i) && !(q.1 + 1 == i && q.2.category == 2)) = lv') (kk : V G x own cc nL Q (pc + 1) lv' st N h a b) : V G x own cc nL Q pc lv (.int v :: st) N h a b := fun C H locs ls w s l => lv_istore_n C.1.1 C.1.2.1 hd hi l hn hl (fun ls' l' => kk C H locs ls' w s l')
theorem v_istore {pc : Nat} {i : Nat} {v : Int32} (hd : decode cc pc = .ok (.istore i, 2)) (hn : i < nL) (hl : (i, Value.int v) :: lv.filter (fun q => !(q.1 == i) && !(q.1 + 1 == i && q.2.category == 2)) = lv') (kk : V G x own cc nL Q (pc + 2) lv' st N h a b) : V G x own cc nL Q pc lv (.int v :: st) N h a b := fun C H locs ls w s l => lv_istore C.1.1 C.1.2.1 hd l hn hl (fun ls' l' => kk C H locs ls' w s l')
theorem v_astore_n {pc : Nat} {k : Fin 4} {i : Nat} {v : Nat} (hd : decode cc pc = .ok (.astore_n k, 1)) (hi : (k : Nat) = i) (hn : i < nL) (hl : (i, Value.ref v) :: lv.filter (fun q => !(q.1 == i) && !(q.1 + 1 == i && q.2.category == 2)) = lv') (kk : V G x own cc nL Q (pc + 1) lv' st N h a b) : V G x own cc nL Q pc lv (.ref v :: st) N h a b := fun C H locs ls w s l => lv_astore_n C.1.1 C.1.2.1 hd hi l hn hl (fun ls' l' => kk C H locs ls' w s l')
theorem v_astore {pc : Nat} {i : Nat} {v : Nat} (hd : decode cc pc = .ok (.astore i, 2)) (hn : i < nL) (hl : (i, Value.ref v) :: lv.filter (fun q => !(q.1 == i) && !(q.1 + 1 == i && q.2.category == 2)) = lv') (kk : V G x own cc nL Q (pc + 2) lv' st N h a b) : V G x own cc nL Q pc lv (.ref v :: st) N h a b := fun C H locs ls w s l => lv_astore C.1.1 C.1.2.1 hd l hn hl (fun ls' l' => kk C H locs ls' w s l')
theorem v_lstore_n {pc : Nat} {k : Fin 4} {i : Nat} {v : Int64} (hd : decode cc pc = .ok (.lstore_n k, 1)) (hi : (k : Nat) = i) (hn : i + 1 < nL) (hl : (i, Value.long v) :: lv.filter (fun q => !(q.1 == i) && (!(q.1 == i + 1) && !(q.1 + 1 == i && q.2.category == 2))) = lv') (kk : V G x own cc nL Q (pc + 1) lv' st N h a b) : V G x own cc nL Q pc lv (.long v :: st) N h a b := fun C H locs ls w s l => lv_lstore_n C.1.1 C.1.2.1 hd hi l hn hl (fun ls' l' => kk C H locs ls' w s l')
theorem v_astore_nN {pc : Nat} {k : Fin 4} {i : Nat} (hd : decode cc pc = .ok (.astore_n k, 1)) (hi : (k : Nat) = i) (hn : i < nL) (hl : (i, Value.null) :: lv.filter (fun q => !(q.1 == i) && !(q.1 + 1 == i && q.2.category == 2)) = lv') (kk : V G x own cc nL Q (pc + 1) lv' st N h a b) : V G x own cc nL Q pc lv (.null :: st) N h a b := fun C H locs ls w s l => lv_astore_nN C.1.1 C.1.2.1 hd hi l hn hl (fun ls' l' => kk C H locs ls' w s l')
theorem v_iinc {pc : Nat} {i k : Nat} {n : Int} {u v : Int32} (hd : decode cc pc = .ok (.iinc i n, 3)) (hk : lv[k]? = some (i, .int u)) (hv : u + Int32.ofInt n = v) (hn : i < nL) (hl : (i, Value.int v) :: lv.filter (fun q => !(q.1 == i) && !(q.1 + 1 == i && q.2.category == 2)) = lv') (kk : V G x own cc nL Q (pc + 3) lv' st N h a b) : V G x own cc nL Q pc lv st N h a b := fun C H locs ls w s l => lv_iinc C.1.1 C.1.2.1 hd l hk hv hn hl (fun ls' l' => kk C H locs ls' w s l')
theorem v_iconst {pc : Nat} {n : Int} (v : Int32) (hd : decode cc pc = .ok (.iconst n, 1)) (hv : Int32.ofInt n = v) (kk : V G x own cc nL Q (pc + 1) lv (.int v :: st) N h a b) : V G x own cc nL Q pc lv (st) N h a b := fun C H locs ls w s l => lv_iconst C.1.1 C.1.2.1 hd hv (kk C H locs ls w s l)
theorem v_bipush {pc : Nat} {n : Int} (v : Int32) (hd : decode cc pc = .ok (.bipush n, 2)) (hv : (Int8.ofInt n).toInt32 = v) (kk : V G x own cc nL Q (pc + 2) lv (.int v :: st) N h a b) : V G x own cc nL Q pc lv (st) N h a b := fun C H locs ls w s l => lv_bipush C.1.1 C.1.2.1 hd hv (kk C H locs ls w s l)
theorem v_sipush {pc : Nat} {n : Int} (v : Int32) (hd : decode cc pc = .ok (.sipush n, 3)) (hv : (Int16.ofInt n).toInt32 = v) (kk : V G x own cc nL Q (pc + 3) lv (.int v :: st) N h a b) : V G x own cc nL Q pc lv (st) N h a b := fun C H locs ls w s l => lv_sipush C.1.1 C.1.2.1 hd hv (kk C H locs ls w s l)
theorem v_lconst {pc : Nat} {n : Fin 2} (v : Int64) (hd : decode cc pc = .ok (.lconst n, 1)) (hv : Int64.ofNat (n : Nat) = v) (kk : V G x own cc nL Q (pc + 1) lv (.long v :: st) N h a b) : V G x own cc nL Q pc lv (st) N h a b := fun C H locs ls w s l => lv_lconst C.1.1 C.1.2.1 hd hv (kk C H locs ls w s l)
theorem v_null {pc : Nat}  (hd : decode cc pc = .ok (.aconst_null, 1)) (kk : V G x own cc nL Q (pc + 1) lv (.null :: st) N h a b) : V G x own cc nL Q pc lv (st) N h a b := fun C H locs ls w s l => lv_null C.1.1 C.1.2.1 hd (kk C H locs ls w s l)
theorem v_ldc {pc index : Nat} {v : Int32} (hc : Jvm.Cond.constant own index v ∈ lw_all) (hd : decode cc pc = .ok (.ldc index, 2)) (kk : V G x own cc nL Q (pc + 2) lv (.int v :: st) N h a b) : V G x own cc nL Q pc lv st N h a b := fun C H locs ls w s l => lv_ldc C.1.1 C.1.2.1 C.1.2.2.2.1 (C.1.2.2.2.2 _ hc) hd (kk C H locs ls w s l)
theorem v_ldcw {pc index : Nat} {v : Int32} (hc : Jvm.Cond.constant own index v ∈ lw_all) (hd : decode cc pc = .ok (.ldc_w index, 3)) (kk : V G x own cc nL Q (pc + 3) lv (.int v :: st) N h a b) : V G x own cc nL Q pc lv st N h a b := fun C H locs ls w s l => lv_ldcw C.1.1 C.1.2.1 C.1.2.2.2.1 (C.1.2.2.2.2 _ hc) hd (kk C H locs ls w s l)
theorem v_ldc2 {pc index : Nat} {v : Int64} (hc : Jvm.Cond.constantLong own index v ∈ lw_all) (hd : decode cc pc = .ok (.ldc2_w index, 3)) (kk : V G x own cc nL Q (pc + 3) lv (.long v :: st) N h a b) : V G x own cc nL Q pc lv st N h a b := fun C H locs ls w s l => lv_ldc2 C.1.1 C.1.2.1 C.1.2.2.2.1 (C.1.2.2.2.2 _ hc) hd (kk C H locs ls w s l)
theorem v_iadd {pc : Nat} {u v : Int32} (hd : decode cc pc = .ok (.iadd, 1)) (kk : V G x own cc nL Q (pc + 1) lv (.int (u + v) :: st) N h a b) : V G x own cc nL Q pc lv (.int v :: .int u :: st) N h a b := fun C H locs ls w s l => lv_iadd C.1.1 C.1.2.1 hd (kk C H locs ls w s l)
theorem v_isub {pc : Nat} {u v : Int32} (hd : decode cc pc = .ok (.isub, 1)) (kk : V G x own cc nL Q (pc + 1) lv (.int (u - v) :: st) N h a b) : V G x own cc nL Q pc lv (.int v :: .int u :: st) N h a b := fun C H locs ls w s l => lv_isub C.1.1 C.1.2.1 hd (kk C H locs ls w s l)
theorem v_imul {pc : Nat} {u v : Int32} (hd : decode cc pc = .ok (.imul, 1)) (kk : V G x own cc nL Q (pc + 1) lv (.int (u * v) :: st) N h a b) : V G x own cc nL Q pc lv (.int v :: .int u :: st) N h a b := fun C H locs ls w s l => lv_imul C.1.1 C.1.2.1 hd (kk C H locs ls w s l)
theorem v_iand {pc : Nat} {u v : Int32} (hd : decode cc pc = .ok (.iand, 1)) (kk : V G x own cc nL Q (pc + 1) lv (.int (u &&& v) :: st) N h a b) : V G x own cc nL Q pc lv (.int v :: .int u :: st) N h a b := fun C H locs ls w s l => lv_iand C.1.1 C.1.2.1 hd (kk C H locs ls w s l)
theorem v_ior {pc : Nat} {u v : Int32} (hd : decode cc pc = .ok (.ior, 1)) (kk : V G x own cc nL Q (pc + 1) lv (.int (u ||| v) :: st) N h a b) : V G x own cc nL Q pc lv (.int v :: .int u :: st) N h a b := fun C H locs ls w s l => lv_ior C.1.1 C.1.2.1 hd (kk C H locs ls w s l)
theorem v_ixor {pc : Nat} {u v : Int32} (hd : decode cc pc = .ok (.ixor, 1)) (kk : V G x own cc nL Q (pc + 1) lv (.int (u ^^^ v) :: st) N h a b) : V G x own cc nL Q pc lv (.int v :: .int u :: st) N h a b := fun C H locs ls w s l => lv_ixor C.1.1 C.1.2.1 hd (kk C H locs ls w s l)
theorem v_ishl {pc : Nat} {u v : Int32} (hd : decode cc pc = .ok (.ishl, 1)) (kk : V G x own cc nL Q (pc + 1) lv (.int (u <<< (v &&& 31)) :: st) N h a b) : V G x own cc nL Q pc lv (.int v :: .int u :: st) N h a b := fun C H locs ls w s l => lv_ishl C.1.1 C.1.2.1 hd (kk C H locs ls w s l)
theorem v_ishr {pc : Nat} {u v : Int32} (hd : decode cc pc = .ok (.ishr, 1)) (kk : V G x own cc nL Q (pc + 1) lv (.int (u >>> (v &&& 31)) :: st) N h a b) : V G x own cc nL Q pc lv (.int v :: .int u :: st) N h a b := fun C H locs ls w s l => lv_ishr C.1.1 C.1.2.1 hd (kk C H locs ls w s l)
theorem v_irem {pc : Nat} {u v : Int32} (hd : decode cc pc = .ok (.irem, 1)) (hne : ¬ v = 0) (kk : V G x own cc nL Q (pc + 1) lv (.int (u - u / v * v) :: st) N h a b) : V G x own cc nL Q pc lv (.int v :: .int u :: st) N h a b := fun C H locs ls w s l => lv_irem C.1.1 C.1.2.1 hd hne (kk C H locs ls w s l)
theorem v_ladd {pc : Nat} {u v : Int64} (hd : decode cc pc = .ok (.ladd, 1)) (kk : V G x own cc nL Q (pc + 1) lv (.long (u + v) :: st) N h a b) : V G x own cc nL Q pc lv (.long v :: .long u :: st) N h a b := fun C H locs ls w s l => lv_ladd C.1.1 C.1.2.1 hd (kk C H locs ls w s l)
theorem v_lsub {pc : Nat} {u v : Int64} (hd : decode cc pc = .ok (.lsub, 1)) (kk : V G x own cc nL Q (pc + 1) lv (.long (u - v) :: st) N h a b) : V G x own cc nL Q pc lv (.long v :: .long u :: st) N h a b := fun C H locs ls w s l => lv_lsub C.1.1 C.1.2.1 hd (kk C H locs ls w s l)
theorem v_land {pc : Nat} {u v : Int64} (hd : decode cc pc = .ok (.land, 1)) (kk : V G x own cc nL Q (pc + 1) lv (.long (u &&& v) :: st) N h a b) : V G x own cc nL Q pc lv (.long v :: .long u :: st) N h a b := fun C H locs ls w s l => lv_land C.1.1 C.1.2.1 hd (kk C H locs ls w s l)
theorem v_lor {pc : Nat} {u v : Int64} (hd : decode cc pc = .ok (.lor, 1)) (kk : V G x own cc nL Q (pc + 1) lv (.long (u ||| v) :: st) N h a b) : V G x own cc nL Q pc lv (.long v :: .long u :: st) N h a b := fun C H locs ls w s l => lv_lor C.1.1 C.1.2.1 hd (kk C H locs ls w s l)
theorem v_lxor {pc : Nat} {u v : Int64} (hd : decode cc pc = .ok (.lxor, 1)) (kk : V G x own cc nL Q (pc + 1) lv (.long (u ^^^ v) :: st) N h a b) : V G x own cc nL Q pc lv (.long v :: .long u :: st) N h a b := fun C H locs ls w s l => lv_lxor C.1.1 C.1.2.1 hd (kk C H locs ls w s l)
theorem v_iushr {pc : Nat} {u v r : Int32} (hd : decode cc pc = .ok (.iushr, 1)) (hv : (u.toUInt32 >>> (v.toUInt32 &&& Int32.toUInt32 31)).toInt32 = r) (kk : V G x own cc nL Q (pc + 1) lv (.int r :: st) N h a b) : V G x own cc nL Q pc lv (.int v :: .int u :: st) N h a b := fun C H locs ls w s l => lv_iushr C.1.1 C.1.2.1 hd hv (kk C H locs ls w s l)
theorem v_lshl {pc : Nat} {u r : Int64} {v : Int32} (hd : decode cc pc = .ok (.lshl, 1)) (hv : u <<< (v.toInt64 &&& 63) = r) (kk : V G x own cc nL Q (pc + 1) lv (.long r :: st) N h a b) : V G x own cc nL Q pc lv (.int v :: .long u :: st) N h a b := fun C H locs ls w s l => lv_lshl C.1.1 C.1.2.1 hd hv (kk C H locs ls w s l)
theorem v_lushr {pc : Nat} {u r : Int64} {v : Int32} (hd : decode cc pc = .ok (.lushr, 1)) (hv : (u.toUInt64 >>> (v.toInt64.toUInt64 &&& Int64.toUInt64 63)).toInt64 = r) (kk : V G x own cc nL Q (pc + 1) lv (.long r :: st) N h a b) : V G x own cc nL Q pc lv (.int v :: .long u :: st) N h a b := fun C H locs ls w s l => lv_lushr C.1.1 C.1.2.1 hd hv (kk C H locs ls w s l)
theorem v_l2i {pc : Nat} {u : Int64} {r : Int32} (hd : decode cc pc = .ok (.l2i, 1)) (hv : u.toInt32 = r) (kk : V G x own cc nL Q (pc + 1) lv (.int r :: st) N h a b) : V G x own cc nL Q pc lv (.long u :: st) N h a b := fun C H locs ls w s l => lv_l2i C.1.1 C.1.2.1 hd hv (kk C H locs ls w s l)
theorem v_i2b {pc : Nat} {u r : Int32} (hd : decode cc pc = .ok (.i2b, 1)) (hv : u.toInt8.toInt32 = r) (kk : V G x own cc nL Q (pc + 1) lv (.int r :: st) N h a b) : V G x own cc nL Q pc lv (.int u :: st) N h a b := fun C H locs ls w s l => lv_i2b C.1.1 C.1.2.1 hd hv (kk C H locs ls w s l)
theorem v_i2c {pc : Nat} {u r : Int32} (hd : decode cc pc = .ok (.i2c, 1)) (hv : (u.toUInt32 % 65536).toInt32 = r) (kk : V G x own cc nL Q (pc + 1) lv (.int r :: st) N h a b) : V G x own cc nL Q pc lv (.int u :: st) N h a b := fun C H locs ls w s l => lv_i2c C.1.1 C.1.2.1 hd hv (kk C H locs ls w s l)
theorem v_lcmp {pc : Nat} {u v : Int64} {r : Int32} (hd : decode cc pc = .ok (.lcmp, 1)) (hv : lg_cmp u v = r) (kk : V G x own cc nL Q (pc + 1) lv (.int r :: st) N h a b) : V G x own cc nL Q pc lv (.long v :: .long u :: st) N h a b := fun C H locs ls w s l => by
  subst hv
  exact W.lcmp C.1.1 C.1.2.1 hd (kk C H locs ls w s l)
theorem v_dup {pc : Nat} {u : Value} (hd : decode cc pc = .ok (.dup, 1)) (hu : u.category = 1) (kk : V G x own cc nL Q (pc + 1) lv (u :: u :: st) N h a b) : V G x own cc nL Q pc lv (u :: st) N h a b := fun C H locs ls w s l => lv_dup C.1.1 C.1.2.1 hd hu (kk C H locs ls w s l)
theorem v_pop {pc : Nat} {u : Value} (hd : decode cc pc = .ok (.pop, 1)) (hu : u.category = 1) (kk : V G x own cc nL Q (pc + 1) lv st N h a b) : V G x own cc nL Q pc lv (u :: st) N h a b := fun C H locs ls w s l => lv_pop C.1.1 C.1.2.1 hd hu (kk C H locs ls w s l)
theorem v_dup_x1 {pc : Nat} {u v : Value} (hd : decode cc pc = .ok (.dup_x1, 1)) (hu : u.category = 1) (hv : v.category = 1) (kk : V G x own cc nL Q (pc + 1) lv (u :: v :: u :: st) N h a b) : V G x own cc nL Q pc lv (u :: v :: st) N h a b := fun C H locs ls w s l => lv_dup_x1 C.1.1 C.1.2.1 hd hu hv (kk C H locs ls w s l)
theorem v_dup2 {pc : Nat} {u v : Value} (hd : decode cc pc = .ok (.dup2, 1)) (hu : u.category = 1) (hv : v.category = 1) (kk : V G x own cc nL Q (pc + 1) lv (u :: v :: u :: v :: st) N h a b) : V G x own cc nL Q pc lv (u :: v :: st) N h a b := fun C H locs ls w s l => lv_dup2_11 C.1.1 C.1.2.1 hd hu hv (kk C H locs ls w s l)
theorem v_goto {pc : Nat} {off : Int} (tgt : Nat) (hd : decode cc pc = .ok (.goto off, 3)) (ht : (pc : Int) + off = (tgt : Int)) (kk : V G x own cc nL Q tgt lv st N h a b) : V G x own cc nL Q pc lv st N h a b := fun C H locs ls w s l => lv_goto C.1.1 C.1.2.1 hd ht (kk C H locs ls w s l)
theorem v_ifnull {pc k : Nat} {off : Int} (hd : decode cc pc = .ok (.ifnull off, 3)) (kk : V G x own cc nL Q (pc + 3) lv st N h a b) : V G x own cc nL Q pc lv (.ref k :: st) N h a b := fun C H locs ls w s l => lv_ifnull C.1.1 C.1.2.1 hd (kk C H locs ls w s l)
theorem v_ifnonnull {pc k : Nat} {off : Int} (tgt : Nat) (hd : decode cc pc = .ok (.ifnonnull off, 3)) (ht : (pc : Int) + off = (tgt : Int)) (kk : V G x own cc nL Q tgt lv st N h a b) : V G x own cc nL Q pc lv (.ref k :: st) N h a b := fun C H locs ls w s l => lv_ifnonnull C.1.1 C.1.2.1 hd ht (kk C H locs ls w s l)
theorem v_ifnullN {pc : Nat} {off : Int} (tgt : Nat) (hd : decode cc pc = .ok (.ifnull off, 3)) (ht : (pc : Int) + off = (tgt : Int)) (kk : V G x own cc nL Q tgt lv st N h a b) : V G x own cc nL Q pc lv (.null :: st) N h a b := fun C H locs ls w s l => lv_ifnullN C.1.1 C.1.2.1 hd ht (kk C H locs ls w s l)
theorem v_ifnonnullN {pc : Nat} {off : Int} (hd : decode cc pc = .ok (.ifnonnull off, 3)) (kk : V G x own cc nL Q (pc + 3) lv st N h a b) : V G x own cc nL Q pc lv (.null :: st) N h a b := fun C H locs ls w s l => lv_ifnonnullN C.1.1 C.1.2.1 hd (kk C H locs ls w s l)
theorem v_if_eq {pc : Nat} {u : Int32} {off : Int} (tgt : Nat) (hd : decode cc pc = .ok (.ifCond .eq off, 3)) (ht : (pc : Int) + off = (tgt : Int)) (kt : u = 0 → V G x own cc nL Q tgt lv st N h a b) (kf : ¬ u = 0 → V G x own cc nL Q (pc + 3) lv st N h a b) : V G x own cc nL Q pc lv (.int u :: st) N h a b := fun C H locs ls w s l => lv_if_eq C.1.1 C.1.2.1 hd ht (fun q => kt q C H locs ls w s l) (fun q => kf q C H locs ls w s l)
theorem v_ic_eq {pc : Nat} {u v : Int32} {off : Int} (tgt : Nat) (hd : decode cc pc = .ok (.if_icmp .eq off, 3)) (ht : (pc : Int) + off = (tgt : Int)) (kt : u = v → V G x own cc nL Q tgt lv st N h a b) (kf : ¬ u = v → V G x own cc nL Q (pc + 3) lv st N h a b) : V G x own cc nL Q pc lv (.int v :: .int u :: st) N h a b := fun C H locs ls w s l => lv_icmp_eq C.1.1 C.1.2.1 hd ht (fun q => kt q C H locs ls w s l) (fun q => kf q C H locs ls w s l)
theorem v_if_ne {pc : Nat} {u : Int32} {off : Int} (tgt : Nat) (hd : decode cc pc = .ok (.ifCond .ne off, 3)) (ht : (pc : Int) + off = (tgt : Int)) (kt : ¬ u = 0 → V G x own cc nL Q tgt lv st N h a b) (kf : u = 0 → V G x own cc nL Q (pc + 3) lv st N h a b) : V G x own cc nL Q pc lv (.int u :: st) N h a b := fun C H locs ls w s l => lv_if_ne C.1.1 C.1.2.1 hd ht (fun q => kt q C H locs ls w s l) (fun q => kf q C H locs ls w s l)
theorem v_ic_ne {pc : Nat} {u v : Int32} {off : Int} (tgt : Nat) (hd : decode cc pc = .ok (.if_icmp .ne off, 3)) (ht : (pc : Int) + off = (tgt : Int)) (kt : ¬ u = v → V G x own cc nL Q tgt lv st N h a b) (kf : u = v → V G x own cc nL Q (pc + 3) lv st N h a b) : V G x own cc nL Q pc lv (.int v :: .int u :: st) N h a b := fun C H locs ls w s l => lv_icmp_ne C.1.1 C.1.2.1 hd ht (fun q => kt q C H locs ls w s l) (fun q => kf q C H locs ls w s l)
theorem v_if_lt {pc : Nat} {u : Int32} {off : Int} (tgt : Nat) (hd : decode cc pc = .ok (.ifCond .lt off, 3)) (ht : (pc : Int) + off = (tgt : Int)) (kt : u < 0 → V G x own cc nL Q tgt lv st N h a b) (kf : ¬ u < 0 → V G x own cc nL Q (pc + 3) lv st N h a b) : V G x own cc nL Q pc lv (.int u :: st) N h a b := fun C H locs ls w s l => lv_if_lt C.1.1 C.1.2.1 hd ht (fun q => kt q C H locs ls w s l) (fun q => kf q C H locs ls w s l)
theorem v_ic_lt {pc : Nat} {u v : Int32} {off : Int} (tgt : Nat) (hd : decode cc pc = .ok (.if_icmp .lt off, 3)) (ht : (pc : Int) + off = (tgt : Int)) (kt : u < v → V G x own cc nL Q tgt lv st N h a b) (kf : ¬ u < v → V G x own cc nL Q (pc + 3) lv st N h a b) : V G x own cc nL Q pc lv (.int v :: .int u :: st) N h a b := fun C H locs ls w s l => lv_icmp_lt C.1.1 C.1.2.1 hd ht (fun q => kt q C H locs ls w s l) (fun q => kf q C H locs ls w s l)
theorem v_if_ge {pc : Nat} {u : Int32} {off : Int} (tgt : Nat) (hd : decode cc pc = .ok (.ifCond .ge off, 3)) (ht : (pc : Int) + off = (tgt : Int)) (kt : 0 ≤ u → V G x own cc nL Q tgt lv st N h a b) (kf : ¬ 0 ≤ u → V G x own cc nL Q (pc + 3) lv st N h a b) : V G x own cc nL Q pc lv (.int u :: st) N h a b := fun C H locs ls w s l => lv_if_ge C.1.1 C.1.2.1 hd ht (fun q => kt q C H locs ls w s l) (fun q => kf q C H locs ls w s l)
theorem v_ic_ge {pc : Nat} {u v : Int32} {off : Int} (tgt : Nat) (hd : decode cc pc = .ok (.if_icmp .ge off, 3)) (ht : (pc : Int) + off = (tgt : Int)) (kt : v ≤ u → V G x own cc nL Q tgt lv st N h a b) (kf : ¬ v ≤ u → V G x own cc nL Q (pc + 3) lv st N h a b) : V G x own cc nL Q pc lv (.int v :: .int u :: st) N h a b := fun C H locs ls w s l => lv_icmp_ge C.1.1 C.1.2.1 hd ht (fun q => kt q C H locs ls w s l) (fun q => kf q C H locs ls w s l)
theorem v_if_gt {pc : Nat} {u : Int32} {off : Int} (tgt : Nat) (hd : decode cc pc = .ok (.ifCond .gt off, 3)) (ht : (pc : Int) + off = (tgt : Int)) (kt : 0 < u → V G x own cc nL Q tgt lv st N h a b) (kf : ¬ 0 < u → V G x own cc nL Q (pc + 3) lv st N h a b) : V G x own cc nL Q pc lv (.int u :: st) N h a b := fun C H locs ls w s l => lv_if_gt C.1.1 C.1.2.1 hd ht (fun q => kt q C H locs ls w s l) (fun q => kf q C H locs ls w s l)
theorem v_ic_gt {pc : Nat} {u v : Int32} {off : Int} (tgt : Nat) (hd : decode cc pc = .ok (.if_icmp .gt off, 3)) (ht : (pc : Int) + off = (tgt : Int)) (kt : v < u → V G x own cc nL Q tgt lv st N h a b) (kf : ¬ v < u → V G x own cc nL Q (pc + 3) lv st N h a b) : V G x own cc nL Q pc lv (.int v :: .int u :: st) N h a b := fun C H locs ls w s l => lv_icmp_gt C.1.1 C.1.2.1 hd ht (fun q => kt q C H locs ls w s l) (fun q => kf q C H locs ls w s l)
theorem v_if_le {pc : Nat} {u : Int32} {off : Int} (tgt : Nat) (hd : decode cc pc = .ok (.ifCond .le off, 3)) (ht : (pc : Int) + off = (tgt : Int)) (kt : u ≤ 0 → V G x own cc nL Q tgt lv st N h a b) (kf : ¬ u ≤ 0 → V G x own cc nL Q (pc + 3) lv st N h a b) : V G x own cc nL Q pc lv (.int u :: st) N h a b := fun C H locs ls w s l => lv_if_le C.1.1 C.1.2.1 hd ht (fun q => kt q C H locs ls w s l) (fun q => kf q C H locs ls w s l)
theorem v_ic_le {pc : Nat} {u v : Int32} {off : Int} (tgt : Nat) (hd : decode cc pc = .ok (.if_icmp .le off, 3)) (ht : (pc : Int) + off = (tgt : Int)) (kt : u ≤ v → V G x own cc nL Q tgt lv st N h a b) (kf : ¬ u ≤ v → V G x own cc nL Q (pc + 3) lv st N h a b) : V G x own cc nL Q pc lv (.int v :: .int u :: st) N h a b := fun C H locs ls w s l => lv_icmp_le C.1.1 C.1.2.1 hd ht (fun q => kt q C H locs ls w s l) (fun q => kf q C H locs ls w s l)
theorem v_tableIn {pc : Nat} {dflt lo hi : Int} {offs : Array Int} {len : Nat} {u : Int32} {off : Int} (tgt : Nat) (hd : decode cc pc = .ok (.tableswitch dflt lo hi offs, len)) (h1 : ¬ u.toInt < lo) (h2 : ¬ hi < u.toInt) (ho : offs[(u.toInt - lo).toNat]? = some off) (ht : (pc : Int) + off = (tgt : Int)) (kk : V G x own cc nL Q tgt lv st N h a b) : V G x own cc nL Q pc lv (.int u :: st) N h a b := fun C H locs ls w s l => lv_tableIn C.1.1 C.1.2.1 hd h1 h2 ho ht (kk C H locs ls w s l)
theorem v_tableOut {pc : Nat} {dflt lo hi : Int} {offs : Array Int} {len : Nat} {u : Int32} (tgt : Nat) (hd : decode cc pc = .ok (.tableswitch dflt lo hi offs, len)) (h1 : u.toInt < lo ∨ hi < u.toInt) (ht : (pc : Int) + dflt = (tgt : Int)) (kk : V G x own cc nL Q tgt lv st N h a b) : V G x own cc nL Q pc lv (.int u :: st) N h a b := fun C H locs ls w s l => lv_tableOut C.1.1 C.1.2.1 hd h1 ht (kk C H locs ls w s l)
theorem v_lookup {pc : Nat} {dflt : Int} {ps : Array (Int × Int)} {len : Nat} {u : Int32} {off : Int} (tgt : Nat) (hd : decode cc pc = .ok (.lookupswitch dflt ps, len)) (hq : (ps.toList.zip (ps.toList.drop 1)).all (fun (a, next) => a.1 < next.1) = true) (ho : Op.lookupswitch.offset ps.toList dflt u.toInt = off) (ht : (pc : Int) + off = (tgt : Int)) (kk : V G x own cc nL Q tgt lv st N h a b) : V G x own cc nL Q pc lv (.int u :: st) N h a b := fun C H locs ls w s l => lv_lookup C.1.1 C.1.2.1 hd hq ho ht (kk C H locs ls w s l)
end VR
