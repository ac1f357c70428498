/-! BODIES of the reference's rows in thought, and their places -/
def m_pick3 (J : xI_T) (w k : Int32) : Int32 := if w = 0 then J 97 (ix k) else if w = 1 then J 98 (ix k) else J 99 (ix k)
def m_comingB (I : xI_T) (L : xL_T) (s k w : Int32) : Int32 × xI_T :=
  if m_noB I s < 0 then (m_noB I s, I) else if m_reads I L s 70 45 ≤ k then (-2, m_reads I L s) else (m_pick3 (m_lays (m_behind (m_reads I L s)) 93 0) w k, m_lays (m_behind (m_reads I L s)) 93 0)
def m_flowB (I : xI_T) (L : xL_T) (s ab : Int32) : Int32 × xI_T :=
  if m_noB I s < 0 then (m_noB I s, I) else ((m_pursB (m_reads I L s) 0).2 95 (ix (8 * (ab / 10) + irm ab 10)), (m_pursB (m_reads I L s) 0).2)
theorem coming_k {k z : Int32} (h0 : ¬ k < 0) (h : k < z) (hz : vp_in z 21) : vp_in k 20 := by
  rw [vp_in_iff] at hz ⊢
  rw [i_lt, show (0 : Int32).toInt = 0 from rfl] at h0
  rw [i_lt] at h
  omega
theorem pair_in {I : xI_T} {ab : Int32} (hb : vp_in (I 70 0) 9) (h : ¬ m_pair I ab = 0) : vp_in (8 * (ab / 10) + irm ab 10) 64 := by
  unfold m_pair at h
  by_cases h1 : ab < 0
  · rw [if_pos h1] at h
    exact absurd rfl h
  · rw [if_neg h1] at h
    by_cases h2 : m_isB I (ab / 10) = 0
    · rw [if_pos h2] at h
      exact absurd rfl h
    · rw [if_neg h2] at h
      by_cases h3 : m_isB I (irm ab 10) = 0
      · rw [if_pos h3] at h
        exact absurd rfl h
      · exact xin_88 (isB_in hb h2) (isB_in hb h3)
