set_option maxRecDepth 100000
/-! AT THE LAW'S ENTRY: classes, arrays, statics, constants -/
section EN
variable {s : State} {A : Array Value}
theorem en_arr {ty : FieldType} (h : (Cond.arrayClass ty).before A s = true) (hn : ∀ C, ty ≠ .object C) : ∃ cA : ClassId, ArrOfT s cA ty ∧ va_RA s cA ty := by
  obtain ⟨cB, kB, comp, hcB, hkB, hkind⟩ := Cond.arrayClass_spec h
  refine ⟨cB, fun n z => ⟨fun k h => (by cases h), kB, hkB, comp, hkind⟩, ?_⟩
  cases ty <;> first | exact hcB | exact absurd rfl (hn _)
theorem en_ao {C : String} (h : (Cond.arrayOver (.object C)).before A s = true) : ∃ cA : ClassId, ArrOfT s cA (.object C) ∧ va_RA s cA (.object C) := by
  obtain ⟨comp, c, k, h1, h2, h3, h4, h5⟩ := Cond.arrayOver_spec h
  exact ⟨c, fun n z => ⟨fun k h => (by cases h), k, h3, comp, h4⟩, k, comp, h3, h4, h1, h5⟩
theorem en_aa {t : FieldType} (h : (Cond.arrayOver (.array t)).before A s = true) : ∃ cA : ClassId, ArrOfT s cA (.array t) ∧ va_RA s cA (.array t) := by
  obtain ⟨comp, c, k, h1, h2, h3, h4, h5⟩ := arrayOverA_spec h
  exact ⟨c, fun n z => ⟨fun k h => (by cases h), k, h3, comp, h4⟩, h5⟩
end EN
