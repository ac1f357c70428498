/-! BOUNDS: judging with another third, another buyer, another want -/
theorem Wall.unl {I : xI_T} {L : xL_T} {s : Int32} (h : Wall I) : Wall (m_unl I L s).2 := h.pursB (o := 0)
theorem unl_o {I : xI_T} {L : xL_T} {s : Int32} {q j : Nat} (h : gz3 q j) (h3 : q ≠ 93) : (m_unl I L s).2 q j = I q j := pursB_o (o := 0) h h3
theorem Wsh.unl {I : xI_T} {L : xL_T} {s : Int32} (h : Wsh I) : Wsh (m_unl I L s).2 := fun x hx => by
  rw [unl_o (gz3_q (Or.inr (Or.inr (Or.inl rfl)))) (by decide)]
  exact h x hx
theorem Wsh.up {I : xI_T} {q k : Nat} {v : Int32} (h : Wsh I) (hq : q ≠ 91) : Wsh (up2 I q k v) := fun x hx => by
  rw [up2_i _ _ (Ne.symm hq)]
  exact h x hx
theorem Wall.third {I : xI_T} {t : Nat} (h : Wall I) (h1 : 1 ≤ t) (h5 : t ≤ 5) : Wall (up2 I 70 2 (nI t)) := by
  obtain ⟨⟨a, b, c, d, e⟩, w, r⟩ := h
  refine ⟨⟨by rw [up2_k _ _ (by decide)]; exact a, by rw [up2_s]; exact vp_in_nI (by omega) (by decide), by rw [up2_s]; exact nI_ne0 (by omega) (by omega), by rw [up2_i _ _ (by decide)]; exact d, fun k hk hk2 => by rw [up2_i _ _ (by decide)]; exact e k hk hk2⟩, w.up rfl (by decide), r.mv (up2_k _ _ (by decide)) fun j => up2_i _ _ (by decide)⟩
theorem Wall.place {I : xI_T} {p : Nat} {v : Int32} (h : Wall I) (hv : vp_in v 8) : Wall (up2 I 96 p v) := by
  obtain ⟨m, w, r⟩ := h
  refine ⟨m.mv (up2_i _ _ (by decide)) (up2_i _ _ (by decide)) fun j _ _ => up2_i _ _ (by decide), w.up rfl (fun z => by omega), by rw [up2_i _ _ (by decide)]; exact r.1, fun k hk hk20 => ?_⟩
  rw [up2_i _ _ (by decide)] at hk
  rw [up2_ap]
  by_cases e : k = p
  · rw [if_pos ⟨rfl, e⟩]
    exact hv
  · rw [if_neg (fun y => e y.2)]
    exact r.2 k hk hk20
