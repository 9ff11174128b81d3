set_option maxRecDepth 100000
/-! AT THE LAW'S ENTRY: classes, arrays, statics, constants -/
section EN
variable {s : State} {A : Array Value}
theorem en_arr {ty : FieldType} (h : (Cond.arrayClass ty).before A s = true) (hn : ∀ C, ty ≠ .object C) : ∃ cA : ClassId, ArrOfT s cA ty ∧ va_RA s cA ty := by
  obtain ⟨cB, kB, comp, hcB, hkB, hkind⟩ := Cond.arrayClass_spec h
  refine ⟨cB, fun n z => ⟨fun k h => (by cases h), kB, hkB, comp, hkind⟩, ?_⟩
  cases ty <;> first | exact hcB | exact absurd rfl (hn _)
theorem en_ao {C : String} (h : (Cond.arrayOver (.object C)).before A s = true) : ∃ cA : ClassId, ArrOfT s cA (.object C) ∧ va_RA s cA (.object C) := by
  obtain ⟨comp, c, k, h1, h2, h3, h4, h5⟩ := Cond.arrayOver_spec h
  exact ⟨c, fun n z => ⟨fun k h => (by cases h), k, h3, comp, h4⟩, k, comp, h3, h4, h1, h5⟩
theorem en_aa {t : FieldType} (h : (Cond.arrayOver (.array t)).before A s = true) : ∃ cA : ClassId, ArrOfT s cA (.array t) ∧ va_RA s cA (.array t) := by
  obtain ⟨comp, c, k, h1, h2, h3, h4, h5⟩ := arrayOverA_spec h
  exact ⟨c, fun n z => ⟨fun k h => (by cases h), k, h3, comp, h4⟩, h5⟩
end EN
set_option maxHeartbeats 4000000 in
theorem en_G {s : State} {b : Nat} (hts : ∀ w ∈ lw_tbl, w.before #[Value.ref b] s = true) (hgv : (Jvm.Cond.and given_1 narrow_1).before #[Value.ref b] s = true) : ∃ G : GT, gZ G = s.heap.size ∧ va_K G.1 clX (tyG G) s ∧ NW s ∧ sR G s ∧ SF G s s.heap := by
  have hall : ∀ w ∈ lw_all, w.before #[Value.ref b] s = true := fun w h => hts w (List.mem_filter.mp h).1
  have hs := flat_of_before _ hgv
  obtain ⟨c0, i0, k0⟩ := u_known (C := RX0) (T := TX0) (N := 15) (n := 15) hall in_X0 (hall _ q85)
  obtain ⟨c1, i1, k1⟩ := u_known (C := RX1) (T := TX1) (N := 9) (n := 9) hall in_X1 (hall _ q93)
  obtain ⟨c2, i2, k2⟩ := u_known (C := RX2) (T := TX2) (N := 18) (n := 18) hall in_X2 (hall _ q196)
  obtain ⟨c3, i3, k3⟩ := u_known (C := RX3) (T := TX3) (N := 34) (n := 34) hall in_X3 (hall _ q931)
  obtain ⟨c4, i4, k4⟩ := u_known (C := RX4) (T := TX4) (N := 6) (n := 6) hall in_X4 (hall _ q450)
  obtain ⟨c5, i5, k5⟩ := u_known (C := RX5) (T := TX5) (N := 7) (n := 7) hall in_X5 (hall _ q582)
  obtain ⟨c6, i6, k6⟩ := u_known (C := RJ0) (T := TJ0) (N := 3) (n := 3) hall in_J0 (hall _ q101)
  obtain ⟨c7, i7, k7⟩ := u_known (C := RJ2) (T := TJ2) (N := 3) (n := 3) hall in_J2 (hall _ q174)
  obtain ⟨a0, ha0⟩ := en_arr (hall _ q123) (by intro C h; cases h)
  obtain ⟨a1, ha1⟩ := en_arr (hall _ q124) (by intro C h; cases h)
  obtain ⟨a2, ha2⟩ := en_arr (hall _ q431) (by intro C h; cases h)
  obtain ⟨a3, ha3⟩ := en_arr (hall _ q432) (by intro C h; cases h)
  obtain ⟨a4, ha4⟩ := en_aa (hts _ q99)
  obtain ⟨a5, ha5⟩ := en_ao (hts _ q184)
  obtain ⟨a6, ha6⟩ := en_ao (hts _ q274)
  have hA : ∀ a : Nat, a < s.heap.size → ¬ (fun q : Nat => s.heap.size ≤ q) a := fun a h => Nat.not_le.mpr h
  have hlen : (Term.length (.static "java/lang/Integer$IntegerCache" "cache" "[Ljava/lang/Integer;")).eval #[Value.ref b] s none [] s = some (.int (Int32.ofNat 256)) := va_eqt (hs (.eq (.length (.static "java/lang/Integer$IntegerCache" "cache" "[Ljava/lang/Integer;")) (.int 256)) (by decide +kernel))
  obtain ⟨ad, hC, hel⟩ := vb_Cof (st := (.static "java/lang/Integer$IntegerCache" "cache" "[Ljava/lang/Integer;")) rfl hlen (hs _ (by decide +kernel)) hA
  obtain ⟨t, ht, hT⟩ := va_Tof (tm := (.static "java/lang/Integer$IntegerCache" "cache" "[Ljava/lang/Integer;")) (ty := .object "java/lang/Integer") (N := 256) (f := fun j => .ref (ad j)) (by decide) (hs _ (by decide +kernel)) hlen hel hA
  obtain ⟨aK, aV, hSt, hSe⟩ := vk_Sof (N := 1) (tm := fun _ => .string "ScopeTasks$Reader" 49) (len := [11]) (byt := [[119, 98, 106, 120, 102, 114, 116, 100, 115, 99, 103]]) (A := fun q : Nat => s.heap.size ≤ q) (fun i hi => by obtain rfl : i = 0 := (by omega); decide) (fun i _ => hs _ (by decide +kernel)) (fun i _ => hs _ (by decide +kernel)) (fun i _ => hs _ (by decide +kernel))
    (fun i hi => by obtain rfl : i = 0 := (by omega); exact hs (.eq (.length (.field (.string "ScopeTasks$Reader" 49) "java/lang/String" "value" "[B")) (.int 11)) (by decide +kernel))
    (fun i hi j hj => by
      obtain rfl : i = 0 := by omega
      have hj : j < 11 := hj
      match j, hj with
      | 0, _ => exact hs (.eq (.elem (.field (.string "ScopeTasks$Reader" 49) "java/lang/String" "value" "[B") (.int 0)) (.int 119)) (by decide +kernel)
      | 1, _ => exact hs (.eq (.elem (.field (.string "ScopeTasks$Reader" 49) "java/lang/String" "value" "[B") (.int 1)) (.int 98)) (by decide +kernel)
      | 2, _ => exact hs (.eq (.elem (.field (.string "ScopeTasks$Reader" 49) "java/lang/String" "value" "[B") (.int 2)) (.int 106)) (by decide +kernel)
      | 3, _ => exact hs (.eq (.elem (.field (.string "ScopeTasks$Reader" 49) "java/lang/String" "value" "[B") (.int 3)) (.int 120)) (by decide +kernel)
      | 4, _ => exact hs (.eq (.elem (.field (.string "ScopeTasks$Reader" 49) "java/lang/String" "value" "[B") (.int 4)) (.int 102)) (by decide +kernel)
      | 5, _ => exact hs (.eq (.elem (.field (.string "ScopeTasks$Reader" 49) "java/lang/String" "value" "[B") (.int 5)) (.int 114)) (by decide +kernel)
      | 6, _ => exact hs (.eq (.elem (.field (.string "ScopeTasks$Reader" 49) "java/lang/String" "value" "[B") (.int 6)) (.int 116)) (by decide +kernel)
      | 7, _ => exact hs (.eq (.elem (.field (.string "ScopeTasks$Reader" 49) "java/lang/String" "value" "[B") (.int 7)) (.int 100)) (by decide +kernel)
      | 8, _ => exact hs (.eq (.elem (.field (.string "ScopeTasks$Reader" 49) "java/lang/String" "value" "[B") (.int 8)) (.int 115)) (by decide +kernel)
      | 9, _ => exact hs (.eq (.elem (.field (.string "ScopeTasks$Reader" 49) "java/lang/String" "value" "[B") (.int 9)) (.int 99)) (by decide +kernel)
      | 10, _ => exact hs (.eq (.elem (.field (.string "ScopeTasks$Reader" 49) "java/lang/String" "value" "[B") (.int 10)) (.int 103)) (by decide +kernel)
      | j + 11, h => exact absurd h (by omega))
    (fun i j hi hj h => absurd (by omega : i = j) h) hA
  refine ⟨((fun k => if k = 0 then c0 else if k = 1 then c1 else if k = 2 then c2 else if k = 3 then c3 else if k = 4 then c4 else if k = 5 then c5 else if k = 6 then c6 else c7, fun k => if k = 0 then i0 else if k = 1 then i1 else if k = 2 then i2 else if k = 3 then i3 else if k = 4 then i4 else if k = 5 then i5 else if k = 6 then i6 else i7), fun k => if k = 0 then a0 else if k = 1 then a1 else if k = 2 then a2 else if k = 3 then a3 else if k = 4 then a4 else if k = 5 then a5 else a6, s.heap.size, ad, fun k => if k = 0 then t else if k = 1 then aK 0 else aV 0), rfl, ⟨?_, ?_⟩, NW.of hts, ⟨vk_R.of (hts _ q490) (hSe 0 (by decide)), va_AO.of (hts _ q184), va_AO.of (hts _ q274), over_moved (Vm.Alike.refl _) (hts _ q99)⟩, ?_⟩
  · intro k q hq
    match k, hq with
    | 0, hq => cases hq; exact k0
    | 1, hq => cases hq; exact k1
    | 2, hq => cases hq; exact k2
    | 3, hq => cases hq; exact k3
    | 4, hq => cases hq; exact k4
    | 5, hq => cases hq; exact k5
    | 6, hq => cases hq; exact k6
    | 7, hq => cases hq; exact k7
    | k + 8, hq => simp [clX] at hq
  · intro k q hq
    match k, hq with
    | 0, hq => cases hq; exact ha0
    | 1, hq => cases hq; exact ha1
    | 2, hq => cases hq; exact ha2
    | 3, hq => cases hq; exact ha3
    | 4, hq => cases hq; exact ha4
    | 5, hq => cases hq; exact ha5
    | 6, hq => cases hq; exact ha6
    | k + 7, hq => simp [tyG] at hq
  · exact ⟨va_Zof (hts _ q373) (hall _ q62) (va_eqi (hs _ (by decide +kernel))) hA, va_Zof (hts _ q783) (hall _ q83) (va_eqi (hs _ (by decide +kernel))) hA, va_Zof (hts _ q785) (hall _ q83) ht hA, hT, hC, va_Zof (hts _ q504) (hall _ q71) (va_eqi (hs _ (by decide +kernel))) hA, ⟨fun i hi => by obtain rfl : i = 0 := (by omega); exact hSt.1 0 hi, fun i j hi hj _ => by omega⟩, va_Zqof (hts _ q608) (hall _ q76) (hs _ (by decide +kernel)) hA, va_Zqof (hts _ q610) (hall _ q76) (hs _ (by decide +kernel)) hA⟩
