/-! BODIES of hired and latch -/
def m_hiredB (I : xI_T) (L : xL_T) (s p one w : Int32) : Int32 × xI_T :=
  if m_noB I s < 0 then (m_noB I s, I) else if m_reads I L s 70 45 < p then (-1, m_reads I L s) else if m_reads I L s 70 45 = 20 then (-5, m_reads I L s) else m_pick2 w (m_hirGo (ix p) one (ix (m_reads I L s 70 0)) ((0, -1), m_reads I L s))
def m_latchB (I : xI_T) (L : xL_T) (s one w : Int32) : Int32 × xI_T :=
  if m_noB I s < 0 then (m_noB I s, I) else m_pick2 w (m_latGo one (ix ((m_pursB (m_reads I L s) one).2 70 45) - 1) ((-2, (m_pursB (m_reads I L s) one).1), (m_pursB (m_reads I L s) one).2))
theorem place_z {p x : Int32} {z : Nat} (h0 : ¬ p < 0) (h : p ≤ x) (hz : x = nI z) (h20 : z < 20) : ∃ q : Nat, q ≤ z ∧ p = nI q := by
  rw [hz] at h
  obtain ⟨q, hq, rfl⟩ := nI_of h0
  exact ⟨q, (nI_leI hq (by omega)).mp h, rfl⟩
theorem swaps_i {I : xI_T} {k q j : Nat} (h : q ≠ 96) : m_swaps I k q j = I q j := by
  unfold m_swaps
  rw [up2_i _ _ h, up2_i _ _ h]
theorem Wall.swaps {I : xI_T} {k z : Nat} (h : Wall I) (hz : I 70 45 = nI z) (h20 : z ≤ 20) (hk : k + 1 < z) : Wall (m_swaps I k) := by
  refine ⟨h.1.mv (swaps_i (by decide)) (swaps_i (by decide)) fun j _ _ => swaps_i (by decide), h.2.1.mv (swaps_i (by decide)) fun q j h1 h2 => swaps_i (by omega), by rw [swaps_i (by decide)]; exact h.2.2.1, fun j hj hj20 => ?_⟩
  rw [swaps_i (by decide)] at hj
  unfold m_swaps
  rw [up2_ap, up2_ap]
  by_cases e1 : j = k + 1
  · rw [if_pos ⟨rfl, e1⟩]
    exact h.2.2.2 k (by rw [hz]; exact nI_lt (by omega) (by omega)) (by omega)
  · rw [if_neg (fun y => e1 y.2)]
    by_cases e2 : j = k
    · rw [if_pos ⟨rfl, e2⟩]
      exact h.2.2.2 (k + 1) (by rw [hz]; exact nI_lt (by omega) (by omega)) (by omega)
    · rw [if_neg (fun y => e2 y.2)]
      exact h.2.2.2 j hj hj20
