/-! P, 13: the first state -/
def g0 : SS := ((fun _ => [], fun _ => 0), [], none, [], [], -1)
theorem mR_0 : mR cA0 cF0 g0 := by
  refine ⟨⟨fun s hs => ⟨⟨Nat.zero_le _, fun o ho => absurd ho List.not_mem_nil⟩, rfl, fun i hi => absurd hi (Nat.not_lt_zero _)⟩, fun j hj => ⟨rfl, Nat.zero_lt_succ _⟩⟩, ⟨⟨Nat.zero_le _, fun i hi => absurd hi (Nat.not_lt_zero _)⟩, rfl⟩, ⟨rfl, fun x hx => by cases hx⟩, ⟨rfl, ?_⟩, ⟨rfl, ?_⟩, rfl, Int.le_refl _, by decide⟩
  · exact ⟨Nat.zero_le _, fun i hi => absurd hi (Nat.not_lt_zero _)⟩
  · exact ⟨Nat.zero_le _, fun i hi => absurd hi (Nat.not_lt_zero _)⟩
