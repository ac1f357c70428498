/-! READERS and changes: cases -/
theorem isOf_1 {J : xI_T} {b w : Int32} (hb : vp_in (J 70 0) 9) (h : ¬ m_isOf J b w = 0) : ((w = 4 ∨ w = 5 ∨ w = 6) ∧ b = 0) ∨ ((w = 0 ∨ w = 1 ∨ w = 2 ∨ w = 3) ∧ ∃ y : Nat, y < ix (J 70 0) ∧ y < 8 ∧ b = nI y) := by
  unfold m_isOf at h
  by_cases h1 : ¬ inR w 0 3 = 0
  · rw [if_pos h1] at h
    obtain ⟨y, hy, hy8, ey⟩ := isB_y hb h
    obtain ⟨t, ht, e⟩ := vp_in_of (xinR (N := 4) h1 (by decide)) (by decide)
    refine Or.inr ⟨?_, y, hy, hy8, ey⟩
    rw [e]
    have z : t = 0 ∨ t = 1 ∨ t = 2 ∨ t = 3 := by omega
    rcases z with rfl | rfl | rfl | rfl
    · exact Or.inl rfl
    · exact Or.inr (Or.inl rfl)
    · exact Or.inr (Or.inr (Or.inl rfl))
    · exact Or.inr (Or.inr (Or.inr rfl))
  · rw [if_neg h1] at h
    by_cases h2 : inR w 4 6 = 0
    · rw [if_pos h2] at h; exact absurd rfl h
    · rw [if_neg h2] at h
      by_cases h3 : b = 0
      · refine Or.inl ⟨?_, h3⟩
        obtain ⟨t, h4, h6, e⟩ := inR_nat 4 6 h2 rfl rfl (by decide)
        rw [e]
        have z : t = 4 ∨ t = 5 ∨ t = 6 := by omega
        rcases z with rfl | rfl | rfl
        · exact Or.inl rfl
        · exact Or.inr (Or.inl rfl)
        · exact Or.inr (Or.inr rfl)
      · rw [if_neg h3] at h; exact absurd rfl h
theorem isOf_b {J : xI_T} {b w : Int32} (hb : vp_in (J 70 0) 9) (h : ¬ m_isOf J b w = 0) (hw : w = 0 ∨ w = 1 ∨ w = 2 ∨ w = 3) : ∃ y : Nat, y < ix (J 70 0) ∧ y < 8 ∧ b = nI y := by
  rcases isOf_1 hb h with ⟨h1, -⟩ | h1
  · exfalso
    rcases hw with rfl | rfl | rfl | rfl <;> exact absurd h1 (by decide)
  · exact h1.2
theorem isOf_6 {J : xI_T} {b w : Int32} (hb : vp_in (J 70 0) 9) (h : ¬ m_isOf J b w = 0) (h0 : ¬ w = 0) (h1 : ¬ w = 1) (h2 : ¬ w = 2) (h3 : ¬ w = 3) (h4 : ¬ w = 4) (h5 : ¬ w = 5) : w = 6 ∧ b = 0 := by
  rcases isOf_1 hb h with ⟨h6 | h6 | h6, h7⟩ | ⟨h6 | h6 | h6 | h6, -⟩
  · exact absurd h6 h4
  · exact absurd h6 h5
  · exact ⟨h6, h7⟩
  · exact absurd h6 h0
  · exact absurd h6 h1
  · exact absurd h6 h2
  · exact absurd h6 h3
theorem get_1 {J : xI_T} {y : Nat} (hy : y < 8) : m_get J (nI y) 1 = J 71 y ∧ m_get J (nI y) 2 = J 71 (8 + y) ∧ m_get J (nI y) 3 = J 71 (16 + y) ∧ m_get J (nI y) 0 = J 72 y := by
  refine ⟨?_, ?_, ?_, ?_⟩
  · show J 71 (ix (8 * 1 - 8 + nI y)) = _
    rw [show (8 : Int32) * 1 - 8 + nI y = nI (0 + y) from nI_add 0 y, Nat.zero_add, ix_n (by omega)]
  · show J 71 (ix (8 * 2 - 8 + nI y)) = _
    rw [show (8 : Int32) * 2 - 8 + nI y = nI (8 + y) from nI_add 8 y, ix_n (by omega)]
  · show J 71 (ix (8 * 3 - 8 + nI y)) = _
    rw [show (8 : Int32) * 3 - 8 + nI y = nI (16 + y) from nI_add 16 y, ix_n (by omega)]
  · show J 72 (ix (nI y)) = _
    rw [ix_n (by omega)]
theorem bec_1 {J : xI_T} {y : Nat} {v : Int32} (hy : y < 8) : m_bec J (nI y) 1 v = up2 J 71 y v ∧ m_bec J (nI y) 2 v = up2 J 71 (8 + y) v ∧ m_bec J (nI y) 3 v = up2 J 71 (16 + y) v ∧ m_bec J (nI y) 0 v = up2 J 72 y v := by
  refine ⟨?_, ?_, ?_, ?_⟩
  · show up2 J 71 (ix (8 * 1 - 8 + nI y)) v = _
    rw [show (8 : Int32) * 1 - 8 + nI y = nI (0 + y) from nI_add 0 y, Nat.zero_add, ix_n (by omega)]
  · show up2 J 71 (ix (8 * 2 - 8 + nI y)) v = _
    rw [show (8 : Int32) * 2 - 8 + nI y = nI (8 + y) from nI_add 8 y, ix_n (by omega)]
  · show up2 J 71 (ix (8 * 3 - 8 + nI y)) v = _
    rw [show (8 : Int32) * 3 - 8 + nI y = nI (16 + y) from nI_add 16 y, ix_n (by omega)]
  · show up2 J 72 (ix (nI y)) v = _
    rw [ix_n (by omega)]
/-- the component's cell behind a change -/
def kset (I : xI_T) (w : Int32) (q : Nat) (v : Int32) : xI_T := if w = 0 then up2 I q 0 v else if w = 1 then up2 I q 1 v else if w = 2 then up2 I q 2 v else if w = 3 then up2 I q 3 v else if w = 4 then up2 I 0 2 v else if w = 5 then up2 I 0 3 v else up2 I 0 4 v
def isQ (n : Nat) (Ty : Nat → xs_T) (F : xF_T) (b w : Int32) (q : Nat) : Prop := w = 0 ∨ w = 1 ∨ w = 2 ∨ w = 3 → ∃ y : Nat, y < 8 ∧ b = nI y ∧ F 1 y = some q ∧ (103 ≤ q ∧ q < n) ∧ Ty q = some (.inl 4)
theorem book_1 {J : xI_T} {k : Nat} {w : Int32} (hk : k < 6) (hw : ¬ inR w 0 1 = 0) : J 72 (ix (19 + 6 * w + nI k)) = if w = 0 then J 72 (19 + k) else J 72 (25 + k) := by
  obtain ⟨t, ht, e⟩ := vp_in_of (xinR (N := 2) hw (by decide)) (by decide)
  have z : t = 0 ∨ t = 1 := by omega
  rcases z with rfl | rfl
  · rw [e, if_pos (show nI 0 = 0 from rfl)]
    rw [show (19 : Int32) + 6 * nI 0 + nI k = nI (19 + k) from nI_add 19 k, ix_n (by omega)]
  · rw [e, if_neg (by decide)]
    rw [show (19 : Int32) + 6 * nI 1 + nI k = nI (25 + k) from nI_add 25 k, ix_n (by omega)]
theorem led_d {w : Int32} (h0 : ¬ w = 0) (h1 : ¬ w = 1) (h2 : ¬ w = 2) (h3 : ¬ w = 3) (h4 : ¬ w = 4) : inR w 0 4 = 0 := by
  by_cases h : inR w 0 4 = 0
  · exact h
  · exfalso
    obtain ⟨t, -, h6, e⟩ := inR_nat 0 4 h rfl rfl (by decide)
    have z : t = 0 ∨ t = 1 ∨ t = 2 ∨ t = 3 ∨ t = 4 := by omega
    rcases z with rfl | rfl | rfl | rfl | rfl
    · exact h0 e
    · exact h1 e
    · exact h2 e
    · exact h3 e
    · exact h4 e
theorem trace_1 {t : Nat} {i : Int32} (ht : t < 1000) : ¬ inR i 0 (jmin 24 (nI t) - 1) = 0 ↔ ¬ i < 0 ∧ i < nI t ∧ i < 24 := by
  have e1 : (jmin 24 (nI t) - 1).toInt = (min 24 t : Nat) - 1 := by
    rw [show (24 : Int32) = nI 24 from rfl, jmin_n (by decide) (by omega), i_sub (by rw [nI_toInt (by omega), show (1 : Int32).toInt = 1 from rfl]; omega) (by rw [nI_toInt (by omega), show (1 : Int32).toInt = 1 from rfl]; omega), nI_toInt (by omega), show (1 : Int32).toInt = 1 from rfl]
  rw [i_lt, i_lt, i_lt, nI_toInt (by omega), show (0 : Int32).toInt = 0 from rfl, show (24 : Int32).toInt = 24 from rfl]
  unfold inR
  by_cases h1 : i < 0
  · rw [if_pos h1]
    rw [i_lt, show (0 : Int32).toInt = 0 from rfl] at h1
    exact ⟨fun z => absurd rfl z, fun z => absurd h1 z.1⟩
  · rw [if_neg h1]
    rw [i_lt, show (0 : Int32).toInt = 0 from rfl] at h1
    by_cases h2 : jmin 24 (nI t) - 1 < i
    · rw [if_pos h2]
      rw [i_lt, e1] at h2
      exact ⟨fun z => absurd rfl z, fun z => by omega⟩
    · rw [if_neg h2]
      rw [i_lt, e1] at h2
      exact ⟨fun _ => by omega, fun _ => by decide⟩
