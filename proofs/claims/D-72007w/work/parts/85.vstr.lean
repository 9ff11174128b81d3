set_option maxRecDepth 100000
/-! ROWS on the letters' string; nest mates' static calls; Math.max -/
def lby (j : Nat) : Int32 := ([119, 98, 106, 120, 102, 114, 116, 100, 115, 99, 103] : List Int32).getD j 0
def maxI (u v : Int32) : Int32 := if u < v then v else u
section VS
variable {G : GT} {x : VX} {own : String} {cc : ByteArray} {nL : Nat} {Q : State → Prop} {lv lv' : List (Nat × Value)} {st st0 : List Value} {N : Nat} {S S' : ST} {h : Nat → va_E} {a b pc : Nat}
theorem v_ldcS (hd : decode cc pc = .ok (.ldc 49, 2)) (kk : V G x "ScopeTasks$Reader" cc nL Q (pc + 2) lv (.ref (gX G 1) :: st) N h a b) : V G x "ScopeTasks$Reader" cc nL Q pc lv st N h a b := fun C H locs ls w s l =>
  va_ldcS C.1.1 C.1.2.1 C.1.2.2.2.1 C.2.2.2.2.1.1 hd (kk C H locs ls w s l)
theorem v_strv (hd : decode cc pc = .ok (.getfield 9, 3)) (kk : V G x "java/lang/String" cc nL Q (pc + 3) lv (.ref (gX G 2) :: st) N h a b) : V G x "java/lang/String" cc nL Q pc lv (.ref (gX G 1) :: st) N h a b := fun C H locs ls w s l =>
  vk_getf C.1.1 C.1.2.1 (C.2.2.2.2.2.1.2.2.2.2.2.2.1.1 0 (by decide)).2.2.1 s C.1.2.2.2.1 (C.1.2.2.2.2 _ q1269) (fun _ h => h) hd (kk C H locs ls w s l)
theorem v_strc (hd : decode cc pc = .ok (.getfield 15, 3)) (kk : V G x "java/lang/String" cc nL Q (pc + 3) lv (.int (nI 0) :: st) N h a b) : V G x "java/lang/String" cc nL Q pc lv (.ref (gX G 1) :: st) N h a b := fun C H locs ls w s l =>
  vk_getf C.1.1 C.1.2.1 (C.2.2.2.2.2.1.2.2.2.2.2.2.1.1 0 (by decide)).2.1 s C.1.2.2.2.1 (C.1.2.2.2.2 _ q1268) (fun _ h => h) hd (kk C H locs ls w s l)
theorem v_strl (hd : decode cc pc = .ok (.arraylength, 1)) (kk : V G x own cc nL Q (pc + 1) lv (.int (nI 11) :: st) N h a b) : V G x own cc nL Q pc lv (.ref (gX G 2) :: st) N h a b := fun C H locs ls w s l =>
  va_tlen C.1.1 C.1.2.1 (C.2.2.2.2.2.1.2.2.2.2.2.2.1.1 0 (by decide)).2.2.2 s rfl hd (kk C H locs ls w s l)
theorem v_strb {j : Nat} (hj : j < 11) (hd : decode cc pc = .ok (.baload, 1)) (kk : V G x own cc nL Q (pc + 1) lv (.int (lby j) :: st) N h a b) : V G x own cc nL Q pc lv (.int (nI j) :: .ref (gX G 2) :: st) N h a b := fun C H locs ls w s l =>
  va_tb C.1.1 C.1.2.1 (C.2.2.2.2.2.1.2.2.2.2.2.2.1.1 0 (by decide)).2.2.2 s (nI_vp (n := 11) hj (by decide)) (by rw [nI_clamp (by omega)]; rfl) hd (kk C H locs ls w s l)
theorem v_mmax {index : Nat} {u v : Int32} (hlink : Cond.methodLink own index Lib.Math.max.name ∈ lw_all) (hf : 1 ≤ (xR x).frames) (hlo : (st.map fun v => v.category).sum + 13 ≤ (xR x).locals) (hc : a ≤ (xR x).cells) (hs : b ≤ (xR x).slots) (hd : decode cc pc = .ok (.invokestatic index, 3)) (kk : V G x own cc nL Q (pc + 3) lv (.int (if u < v then v else u) :: st) N h a b) : V G x own cc nL Q pc lv (.int v :: .int u :: st) N h a b := fun C H locs ls w s l =>
  va_mmax C.1.1 C.1.2.1 (by rw [C.1.2.2.1]; exact l.1.symm) C.1.2.2.2.1 (C.1.2.2.2.2 _ hlink) (C.1.2.2.2.2 _ q356) (C.1.2.2.2.2 _ q67) (C.1.2.2.2.2 _ q357) hf hlo hc hs hd (kk C H locs ls w s l)
theorem c_callTi {y : MethodName} {bytes : ByteArray} {maxL d index n : Nat} {ret : Option FieldType} {As : List Value} {e : Int32} (hM : CTi G (xl x) y bytes maxL ret d (.ref (gX G 1) :: As) N S e S') (hV : GoodIn lw_all (wsV own index "java/lang/String" y (ws_ y bytes maxL ret))) (hd4 : y.cls = "java/lang/String" ∧ y.cls ≠ "java/lang/invoke/MethodHandle" ∧ y.cls ≠ "java/lang/invoke/VarHandle" ∧ (parseMethodDescriptor y.desc).map (fun d => d.parameters.length) = some n)
    (hR : d + 1 ≤ (xR x).frames ∧ 8 + (maxL + 11) + 39 * d ≤ (xR x).locals) (hf : a ≤ (xR x).cells ∧ b ≤ (xR x).slots) (hn : As.length = n) (hst : st0 = As.reverse ++ .ref (gX G 1) :: st) (hrest : (st.map fun v => v.category).sum ≤ 8) (hdg : decode cc pc = .ok (.invokevirtual index, 3))
    (kk : V G x own cc nL Q (pc + 3) lv (.int e :: st) N (hC G S') a b) : V G x own cc nL Q pc lv st0 N (hC G S) a b := by
  intro C H locs ls w s l
  subst hst
  exact v_run (y := y) (bytes := bytes) (maxL := maxL) (d := d) (ret := ret) (As := As) (free := AG G) (C := C) w s l (va_runV (As := As) (rest := st) C.1 hM (cwV n C.1.2.2.2.2 hV rfl rfl rfl hd4 hR) ⟨GW.blind, vk_recv C.2.2.2.2.2.1.2.2.2.2.2.2.1 (by decide : (0 : Nat) < 1) s, v_pre C w s⟩ rfl hn l.1 rfl (lv_room hrest) hdg hf) (fun v N' h' q => by obtain ⟨r, rfl, rfl, rfl, rfl⟩ := q; exact kk)
theorem c_callSNi {y : MethodName} {bytes : ByteArray} {maxL d index n : Nat} {host : String} {ret : Option FieldType} {As : List Value} {e : Int32} (hM : CTi G (xl x) y bytes maxL ret d As N S e S') (hG : GoodIn lw_all (ws_ y bytes maxL ret)) (hini : Cond.initialized y.cls ∈ lw_all) (hl1 : Cond.methodLinkNest own index y host ∈ lw_tbl) (hin : Cond.static y ∈ lw_all) (hd4 : y.cls ≠ "java/lang/invoke/MethodHandle" ∧ y.cls ≠ "java/lang/invoke/VarHandle" ∧ (parseMethodDescriptor y.desc).map (fun d => d.parameters.length) = some n)
    (hR : d + 1 ≤ (xR x).frames ∧ 8 + (maxL + 11) + 39 * d ≤ (xR x).locals) (hf : a ≤ (xR x).cells ∧ b ≤ (xR x).slots) (hn : As.length = n) (hst : st0 = As.reverse ++ st) (hrest : (st.map fun v => v.category).sum ≤ 8) (hdg : decode cc pc = .ok (.invokestatic index, 3))
    (kk : V G x own cc nL Q (pc + 3) lv (.int e :: st) N (hC G S') a b) : V G x own cc nL Q pc lv st0 N (hC G S) a b :=
  v_callSN hM hG hini hl1 hin hd4 hR hf hn hst hrest hdg (fun v N' h' q => by obtain ⟨r, rfl, rfl, rfl, rfl⟩ := q; exact kk)
end VS
/-- which of the letters it is -/
def ioc (v : Nat) : Int32 := if v = 119 then nI 0 else if v = 98 then nI 1 else if v = 106 then nI 2 else if v = 120 then nI 3 else if v = 102 then nI 4 else if v = 114 then nI 5 else if v = 116 then nI 6 else if v = 100 then nI 7 else if v = 115 then nI 8 else if v = 99 then nI 9 else if v = 103 then nI 10 else (-1)
theorem bq {v b : Nat} (hv : v < 256) (hb : b < 128) : nI b = (nI v).toInt8.toInt32 ↔ v = b := by
  have : ∀ v : Fin 256, ∀ b : Fin 128, nI b.val = (nI v.val).toInt8.toInt32 ↔ v.val = b.val := by decide +kernel
  exact this ⟨v, hv⟩ ⟨b, hb⟩
