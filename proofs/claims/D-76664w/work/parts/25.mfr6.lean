/-! BOUNDS of tries: a coming put in and taken out again, purses behind -/
theorem lays_o {I : xI_T} {a o q j : Nat} (h : q ≠ 72) : m_lays I a o q j = I q j := by
  unfold m_lays
  rw [cpy2_ap, if_neg (fun z => h z.1)]
/-- behind a row in thought the market is as it was -/
theorem pursB_72 {I : xI_T} {o : Int32} {j : Nat} (h : j < 31) (hA : Wall I) : (m_pursB I o).2 72 j = I 72 j := by
  show m_lays (m_behind I) 93 0 72 j = I 72 j
  unfold m_lays
  rw [cpy2_ap, if_pos ⟨rfl, Nat.zero_le _, by omega⟩]
  have e : ix (m_begins I 70 45) = ix (m_begins I 70 45) := rfl
  unfold m_behind m_goes
  rw [goGo_o (gz3_q (Or.inr (Or.inl rfl)))]
  unfold m_begins m_keeps
  rw [fil2_ap, if_neg (by omega), up2_i _ _ (by decide), cpy2_ap, if_pos ⟨rfl, by omega, by omega⟩]
  congr 1
  omega
theorem behind_o {I : xI_T} {q j : Nat} (h : gz3 q j) (h3 : q ≠ 93) : m_behind I q j = I q j := by
  unfold m_behind m_goes
  rw [goGo_o h, begins_o h3 h.1.2.2.2.1 (fun z => by have := h.1.2.2.2.2 z.1; omega)]
theorem pursB_o {I : xI_T} {o : Int32} {q j : Nat} (h : gz3 q j) (h3 : q ≠ 93) : (m_pursB I o).2 q j = I q j := by
  show m_lays (m_behind I) 93 0 q j = I q j
  rw [lays_o h.1.1, behind_o h h3]
theorem Wall.pursB {I : xI_T} {o : Int32} (h : Wall I) : Wall (m_pursB I o).2 := by
  refine ⟨h.1.mv (pursB_o (gz3_70 (Or.inl (by decide))) (by decide)) (pursB_o (gz3_70 (Or.inl (by decide))) (by decide)) fun j _ _ => pursB_72 (by omega) h, h.2.1.mv (pursB_o (gz3_70 (Or.inl (by decide))) (by decide)) fun q j h1 h2 => pursB_o (gz3_l h1 h2) (by omega), h.2.2.mv (pursB_o (gz3_70 (Or.inr (by decide))) (by decide)) fun j => pursB_o (gz3_q (Or.inl rfl)) (by decide)⟩
theorem puts_i {I : xI_T} {p : Nat} {w : Int32} {q j : Nat} (h : q ≠ 96) (h2 : ¬ (q = 70 ∧ j = 45)) : m_puts I p w q j = I q j := by
  unfold m_puts
  rw [up2_n _ _ h2, up2_i _ _ h]
  unfold pshf
  rw [if_neg (fun z => h z.1)]
theorem puts_45 {I : xI_T} {p : Nat} {w : Int32} : m_puts I p w 70 45 = I 70 45 + 1 := up2_s _ _ _ _
theorem Wall.puts {I : xI_T} {p z : Nat} {w : Int32} (h : Wall I) (hz : I 70 45 = nI z) (hp : p ≤ z) (h20 : z < 20) (hw : vp_in w 8) : Wall (m_puts I p w) := by
  refine ⟨h.1.mv (puts_i (by decide) (by omega)) (puts_i (by decide) (by omega)) fun j _ _ => puts_i (by decide) (by omega), h.2.1.mv (puts_i (by decide) (by omega)) fun q j h1 h2 => puts_i (by omega) (by omega), ?_, fun k hk hk20 => ?_⟩
  · rw [puts_45, hz, nI_1]
    exact vp_in_nI (by omega) (by decide)
  · rw [puts_45, hz, nI_1] at hk
    have hk2 : k < z + 1 := (nI_ltI (by omega) (by omega)).mp hk
    unfold m_puts
    rw [up2_i _ _ (by decide), up2_ap]
    by_cases e : k = p
    · rw [if_pos ⟨rfl, e⟩]
      exact hw
    · rw [if_neg (fun y => e y.2)]
      unfold pshf
      rw [hz, ix_n (by omega)]
      by_cases g : p < k
      · rw [if_pos ⟨rfl, g, by omega⟩]
        exact h.2.2.2 (k - 1) (by rw [hz]; exact nI_lt (by omega) (by omega)) (by omega)
      · rw [if_neg (fun y => g y.2.1)]
        exact h.2.2.2 k (by rw [hz]; exact nI_lt (by omega) (by omega)) hk20
theorem takes_i {I : xI_T} {p : Nat} {q j : Nat} (h : q ≠ 96) (h2 : ¬ (q = 70 ∧ j = 45)) : m_takes I p q j = I q j := by
  unfold m_takes
  rw [cpy2_ap, if_neg (fun z => h z.1), up2_n _ _ h2]
theorem takes_45 {I : xI_T} {p : Nat} : m_takes I p 70 45 = I 70 45 - 1 := by
  unfold m_takes
  rw [cpy2_ap, if_neg (by omega), up2_s]
theorem Wall.takes {I : xI_T} {p z : Nat} (h : Wall I) (hz : I 70 45 = nI (z + 1)) (hp : p ≤ z) (h20 : z < 20) : Wall (m_takes I p) := by
  have e : I 70 45 - 1 = nI z := by rw [hz]; exact nI_pred z
  refine ⟨h.1.mv (takes_i (by decide) (by omega)) (takes_i (by decide) (by omega)) fun j _ _ => takes_i (by decide) (by omega), h.2.1.mv (takes_i (by decide) (by omega)) fun q j h1 h2 => takes_i (by omega) (by omega), ?_, fun k hk hk20 => ?_⟩
  · rw [takes_45, e]
    exact vp_in_nI (by omega) (by decide)
  · rw [takes_45, e] at hk
    have hk2 : k < z := (nI_ltI (by omega) (by omega)).mp hk
    unfold m_takes
    rw [e, ix_n (by omega), cpy2_ap]
    by_cases g : p ≤ k
    · rw [if_pos ⟨rfl, g, by omega⟩, up2_i _ _ (by decide)]
      by_cases g2 : p + 1 + (k - p) < 20
      · exact h.2.2.2 (p + 1 + (k - p)) (by rw [hz]; exact nI_lt (by omega) (by omega)) g2
      · exact absurd g2 (by omega)
    · rw [if_neg (fun y => g y.2.1), up2_i _ _ (by decide)]
      exact h.2.2.2 k (by rw [hz]; exact nI_lt (by omega) (by omega)) hk20
theorem try_W {I : xI_T} {p z : Nat} {w o : Int32} (h : Wall I) (hz : I 70 45 = nI z) (hp : p ≤ z) (h20 : z < 20) (hw : vp_in w 8) : Wall (m_try I p w o).2 ∧ (m_try I p w o).2 70 45 = nI z ∧ (m_try I p w o).2 70 0 = I 70 0 := by
  have hP := h.puts hz hp h20 hw
  have e : (m_pursB (m_puts I p w) o).2 70 45 = nI (z + 1) := by
    rw [pursB_o (gz3_70 (Or.inr (by decide))) (by decide), puts_45, hz, nI_1]
  refine ⟨hP.pursB.takes e hp h20, ?_, ?_⟩
  · show m_takes (m_pursB (m_puts I p w) o).2 p 70 45 = nI z
    rw [takes_45, e]
    exact nI_pred z
  · show m_takes (m_pursB (m_puts I p w) o).2 p 70 0 = I 70 0
    rw [takes_i (by decide) (by omega), pursB_o (gz3_70 (Or.inl (by decide))) (by decide), puts_i (by decide) (by omega)]
def m_onceB (I : xI_T) (L : xL_T) (s one w : Int32) : Int32 × xI_T :=
  if m_noB I s < 0 then (m_noB I s, I) else if m_reads I L s 70 45 = 20 then (-5, m_reads I L s) else m_pick2 w (m_onceGo one (ix (m_reads I L s 70 45) + 1) ((0, -1), m_reads I L s))
theorem len_20 {x : Int32} (h : vp_in x 21) (h2 : ¬ x = 20) : ∃ z : Nat, z < 20 ∧ x = nI z := by
  obtain ⟨q, hq, rfl⟩ := vp_in_of h (by decide)
  refine ⟨q, ?_, rfl⟩
  rcases Nat.lt_or_ge q 20 with y | y
  · exact y
  · exact absurd (show nI q = 20 by rw [show q = 20 by omega]; rfl) h2
theorem better_1 {z : Int32 × Int32} {k v : Int32} (h : v ≤ z.2) : m_better z k v = z := by
  unfold m_better
  rw [if_pos h]
theorem better_2 {z : Int32 × Int32} {k v : Int32} (h : ¬ v ≤ z.2) : m_better z k v = (k, v) := by
  unfold m_better
  rw [if_neg h]
