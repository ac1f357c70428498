/-! WHAT QUERIES STAND ON: orders' answers -/
theorem isB_y {J : xI_T} {o : Int32} (hb : vp_in (J 70 0) 9) (h : ¬ m_isB J o = 0) : ∃ y : Nat, y < ix (J 70 0) ∧ y < 8 ∧ o = nI y := by
  obtain ⟨y, hy, ey⟩ := vp_in_of (isB_in hb h) (by decide)
  obtain ⟨nb, hn, en⟩ := vp_in_of hb (by decide)
  refine ⟨y, ?_, hy, ey⟩
  obtain ⟨h1, h2⟩ := inR_n.mp h
  rw [en, ix_n (by omega)]
  rw [ey, en, i_lt, nI_toInt (by omega), i_sub (by rw [nI_toInt (by omega), show (1 : Int32).toInt = 1 from rfl]; omega) (by rw [nI_toInt (by omega), show (1 : Int32).toInt = 1 from rfl]; omega), nI_toInt (by omega), show (1 : Int32).toInt = 1 from rfl] at h2
  omega
theorem ordx_1 {J : xI_T} {s o k : Int32} (h : inR s 0 ((1 <<< (J 70 0 &&& 31)) - 1) = 0 ∨ m_isB J o = 0 ∨ k < -1) : (m_order J s o k).1 = -1 := by
  unfold m_order
  by_cases h1 : inR s 0 ((1 <<< (J 70 0 &&& 31)) - 1) = 0
  · rw [if_pos h1]
  · rw [if_neg h1]
    by_cases h2 : m_isB J o = 0
    · rw [if_pos h2]
    · rw [if_neg h2, if_pos ((h.resolve_left h1).resolve_left h2)]
theorem ordx_2 {J : xI_T} {s o k : Int32} (h1 : ¬ inR s 0 ((1 <<< (J 70 0 &&& 31)) - 1) = 0) (h2 : ¬ m_isB J o = 0) (h3 : ¬ k < -1) : m_order J s o k = if 5 < bitc s then (-5, J) else if bitc s ≤ k then (-2, J) else (if k = -1 then m_ord o 6 0 s (up2 J 70 52 (-1)) 70 52 else m_ord o 6 0 s (up2 J 70 52 (-1)) 101 (ix k), m_ord o 6 0 s (up2 J 70 52 (-1))) := by
  unfold m_order
  rw [if_neg h1, if_neg h2, if_neg h3]
theorem RO.start {I J : xI_T} : RO (up2 (up2 I 0 19 0) 0 21 (-1)) (up2 J 70 52 (-1)) 0 ↔ ∀ k : Nat, k < 5 → I 23 k = J 101 k := by
  constructor
  · intro h k hk
    have z := h.2.2.2 k hk
    rw [up2_i _ _ (by decide), up2_i _ _ (by decide), up2_i _ _ (by decide)] at z
    exact z
  · intro h
    refine ⟨?_, fun k hk => absurd hk (Nat.not_lt_zero _), ?_, fun k hk => ?_⟩
    · rw [up2_k _ _ (by decide), up2_s]; rfl
    · rw [up2_s, up2_s]
    · rw [up2_i _ _ (by decide), up2_i _ _ (by decide), up2_i _ _ (by decide)]
      exact h k hk
theorem lt0_k {k : Int32} (h1 : -1 ≤ k) (h : ¬ 0 ≤ k) : k = -1 := by
  rw [i_le, show (-1 : Int32).toInt = -1 from rfl] at h1
  rw [i_le, show (0 : Int32).toInt = 0 from rfl] at h
  rw [i_eq, show (-1 : Int32).toInt = -1 from rfl]
  omega
theorem ge0_k {k : Int32} (h : 0 ≤ k) : ¬ k = -1 := fun e => by rw [e] at h; exact absurd h (by decide)
