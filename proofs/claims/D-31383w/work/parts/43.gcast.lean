/-! which classes a cast or an instanceof lets through (printed) -/
theorem xCa_Shapelayer_Composition : xCa "Shapelayer$Composition" [2] := by
  intro ci h
  simp only [List.mem_cons, List.not_mem_nil, or_false] at h
  subst h
  · exact ⟨_, rfl, Or.inl rfl⟩
theorem xCa_Shapelayer_Stroke : xCa "Shapelayer$Stroke" [4] := by
  intro ci h
  simp only [List.mem_cons, List.not_mem_nil, or_false] at h
  subst h
  · exact ⟨_, rfl, Or.inl rfl⟩
theorem xCn_Shapelayer_Stroke : xCn "Shapelayer$Stroke" [3, 5, 6] := by
  intro ci h
  simp only [List.mem_cons, List.not_mem_nil, or_false] at h
  rcases h with h | h | h <;> subst h <;> exact ⟨_, rfl, by decide +kernel⟩
theorem xCa_Shapelayer_Layer : xCa "Shapelayer$Layer" [3, 4, 5, 6] := by
  intro ci h
  simp only [List.mem_cons, List.not_mem_nil, or_false] at h
  rcases h with h | h | h | h <;> subst h
  · exact ⟨_, rfl, Or.inr q2223⟩
  · exact ⟨_, rfl, Or.inr q2224⟩
  · exact ⟨_, rfl, Or.inr q2221⟩
  · exact ⟨_, rfl, Or.inr q2222⟩
theorem xCa_Shapelayer_Nested : xCa "Shapelayer$Nested" [5] := by
  intro ci h
  simp only [List.mem_cons, List.not_mem_nil, or_false] at h
  subst h
  · exact ⟨_, rfl, Or.inl rfl⟩
theorem xCn_Shapelayer_Nested : xCn "Shapelayer$Nested" [3, 4, 6] := by
  intro ci h
  simp only [List.mem_cons, List.not_mem_nil, or_false] at h
  rcases h with h | h | h <;> subst h <;> exact ⟨_, rfl, by decide +kernel⟩
theorem xCa_Shapelayer_Key : xCa "Shapelayer$Key" [8] := by
  intro ci h
  simp only [List.mem_cons, List.not_mem_nil, or_false] at h
  subst h
  · exact ⟨_, rfl, Or.inl rfl⟩
theorem xCa_Shapelayer_Frame : xCa "Shapelayer$Frame" [13] := by
  intro ci h
  simp only [List.mem_cons, List.not_mem_nil, or_false] at h
  subst h
  · exact ⟨_, rfl, Or.inl rfl⟩
