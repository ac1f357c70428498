/-! BOUNDS: shelves of a pair, judges -/
/-- lengths of rows on shelves are in bounds -/
def Wsh (I : xI_T) : Prop := ∀ s : Int32, vp_in s 6 → vp_in (I 91 (ix s)) 61
theorem areS_in {ss : Int32} (h : ¬ m_areS ss = 0) : vp_in (ss / 10) 6 ∧ vp_in (irm ss 10) 6 := by
  unfold m_areS at h
  by_cases h1 : ss < 0
  · rw [if_pos h1] at h
    exact absurd rfl h
  · rw [if_neg h1] at h
    by_cases h2 : inR (ss / 10) 0 5 = 0
    · rw [if_pos h2] at h
      exact absurd rfl h
    · rw [if_neg h2] at h
      by_cases h3 : inR (irm ss 10) 0 5 = 0
      · rw [if_pos h3] at h
        exact absurd rfl h
      · exact ⟨inR_s h2, inR_s h3⟩
theorem Wsh.reads {I : xI_T} {L : xL_T} {s : Int32} (h : Wsh I) : Wsh (m_reads I L s) := fun x hx => by
  rw [reads_o (by decide) (by omega)]
  exact h x hx
theorem judge_0 {I : xI_T} {L : xL_T} {ss : Int32} (h : m_areS ss = 0) : m_judge I L ss = (-1, I) := by
  unfold m_judge
  rw [if_pos h]
theorem judge_1 {I : xI_T} {L : xL_T} {ss : Int32} (h : ¬ m_areS ss = 0) (h2 : m_noR I ss < 0) : m_judge I L ss = (m_noR I ss, I) := by
  unfold m_judge
  rw [if_neg h, if_pos h2]
theorem judge_2 {I : xI_T} {L : xL_T} {ss : Int32} (h : ¬ m_areS ss = 0) (h2 : ¬ m_noR I ss < 0) : m_judge I L ss = m_unl (m_reads I L (ss / 10)) L (irm ss 10) := by
  unfold m_judge
  rw [if_neg h, if_neg h2]
