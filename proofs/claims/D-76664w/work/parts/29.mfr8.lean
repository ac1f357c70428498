/-! What was seen: the first that isn't so -/
theorem unlGo_0 {J : xI_T} {L : xL_T} {s : Int32} {d i : Nat} (h : J 91 (ix s) ≤ nI i) : m_unlGo J L s (d + 1) i = -2 := by
  rw [m_unlGo, if_pos h]
theorem unlGo_1 {J : xI_T} {L : xL_T} {s : Int32} {d i : Nat} (h : ¬ J 91 (ix s) ≤ nI i) (h1 : J 70 45 ≤ nI i) : m_unlGo J L s (d + 1) i = nI i := by
  rw [m_unlGo, if_neg h, if_pos h1]
theorem unlGo_2 {J : xI_T} {L : xL_T} {s : Int32} {d i : Nat} (h : ¬ J 91 (ix s) ≤ nI i) (h1 : ¬ J 70 45 ≤ nI i) (h2 : m_told L s (nI i) = 9) : m_unlGo J L s (d + 1) i = m_unlGo J L s d (i + 1) := by
  rw [m_unlGo, if_neg h, if_neg h1, if_pos h2]
theorem unlGo_3 {J : xI_T} {L : xL_T} {s : Int32} {d i : Nat} (h : ¬ J 91 (ix s) ≤ nI i) (h1 : ¬ J 70 45 ≤ nI i) (h2 : ¬ m_told L s (nI i) = 9) (h3 : m_told L s (nI i) = J 97 i) : m_unlGo J L s (d + 1) i = m_unlGo J L s d (i + 1) := by
  rw [m_unlGo, if_neg h, if_neg h1, if_neg h2, if_pos h3]
theorem unlGo_4 {J : xI_T} {L : xL_T} {s : Int32} {d i : Nat} (h : ¬ J 91 (ix s) ≤ nI i) (h1 : ¬ J 70 45 ≤ nI i) (h2 : ¬ m_told L s (nI i) = 9) (h3 : ¬ m_told L s (nI i) = J 97 i) : m_unlGo J L s (d + 1) i = nI i := by
  rw [m_unlGo, if_neg h, if_neg h1, if_neg h2, if_neg h3]
theorem lt_of_len {x : Int32} {N i : Nat} (h : vp_in x (N + 1)) (hN : N < 1000000) (c : ¬ x ≤ nI i) (hi : i ≤ 1000000) : i < N := by
  rw [vp_in_iff] at h
  rw [i_le, nI_toInt (by omega)] at c
  omega
