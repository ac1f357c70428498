/-! ROWS in thought: later, a coming put in and taken out -/
def m_pickL (J : xI_T) (one : Int32) : Int32 := if one = -1 then J 70 43 else J 72 (ix one)
def m_laterB (I : xI_T) (L : xL_T) (s z one : Int32) : Int32 × xI_T :=
  if m_noB I s < 0 then (m_noB I s, I) else (m_pickL (m_lateGo (ix z) (m_begins (m_reads I L s))) one, m_lays (m_lateGo (ix z) (m_begins (m_reads I L s))) 93 0)
theorem ends_o {I : xI_T} {q j : Nat} (h : ¬ (q = 72 ∧ 8 ≤ j ∧ j < 18)) : m_ends I q j = I q j := by
  unfold m_ends
  rw [fil2_ap, if_neg (by omega), up2_n _ _ (by omega)]
theorem Wall.ends {I : xI_T} (h : Wall I) : Wall (m_ends I) := by
  refine ⟨h.1.mv ?_ ?_ fun j _ _ => ?_, h.2.1.mv ?_ fun q j h1 h2 => ?_, h.2.2.mv ?_ fun j => ?_⟩
  all_goals exact ends_o (by omega)
theorem nI_le0 {i : Nat} (h : nI i ≤ 0) (hi : i < 2147483648) : i = 0 := by
  rw [i_le, nI_toInt (by omega), show (0 : Int32).toInt = 0 from rfl] at h
  omega
theorem lateGo_0 {i : Nat} {I : xI_T} (h : i = 0) : m_lateGo (i + 1) I = m_goes (m_lateGo i I) := by
  simp only [m_lateGo, if_pos h]
theorem lateGo_s {i : Nat} {I : xI_T} (h : ¬ i = 0) : m_lateGo (i + 1) I = m_goes (m_ends (m_lateGo i I)) := by
  simp only [m_lateGo, if_neg h]
theorem psh_z {I : xI_T} {z : Nat} : pshf I z z = I := by
  funext q j
  unfold pshf
  rw [if_neg (by omega)]
theorem psh_up {I : xI_T} {k z : Nat} (h : 1 ≤ k) (hz : k ≤ z) : up2 (pshf I k z) 96 k (pshf I k z 96 (k - 1)) = pshf I (k - 1) z := by
  have e : pshf I k z 96 (k - 1) = I 96 (k - 1) := by
    unfold pshf
    rw [if_neg (by omega)]
  rw [e]
  funext q j
  rw [up2_ap]
  unfold pshf
  by_cases h1 : q = 96 ∧ j = k
  · rw [if_pos h1, if_pos ⟨h1.1, by omega, by omega⟩, h1.2]
  · rw [if_neg h1]
    by_cases h2 : q = 96 ∧ k < j ∧ j ≤ z
    · rw [if_pos h2, if_pos ⟨h2.1, by omega, h2.2.2⟩]
    · rw [if_neg h2, if_neg (by omega)]
