/-! FRAMES AND BOUNDS of a row of comings -/
/-- a row that was read: its length, its buyers -/
def Wrow (I : xI_T) : Prop := vp_in (I 70 45) 21 ∧ ∀ k : Nat, nI k < I 70 45 → k < 20 → vp_in (I 96 k) 8
theorem Wrow.mv {I J : xI_T} (h : Wrow I) (h0 : J 70 45 = I 70 45) (h1 : ∀ j, J 96 j = I 96 j) : Wrow J := by
  refine ⟨by rw [h0]; exact h.1, fun k hk h20 => ?_⟩
  rw [h1]
  exact h.2 k (by rw [← h0]; exact hk) h20
def gz3 (q j : Nat) : Prop := gz q j ∧ q ≠ 97 ∧ q ≠ 98 ∧ q ≠ 99
theorem goGo_o {I : xI_T} {q j : Nat} (h : gz3 q j) : ∀ k : Nat, m_goGo k I q j = I q j
  | 0 => rfl
  | k + 1 => by
    simp only [m_goGo]
    rw [up2_i _ _ h.2.2.2, up2_i _ _ h.2.2.1, up2_i _ _ h.2.1, goes1_o h.1]
    exact goGo_o h k
theorem gz3_70 {j : Nat} (h : j < 40 ∨ 43 < j) : gz3 70 j := ⟨⟨by decide, by decide, by decide, by decide, fun _ => h⟩, by decide, by decide, by decide⟩
theorem gz3_q {q j : Nat} (h : q = 96 ∨ q = 93 ∨ q = 91 ∨ q = 71) : gz3 q j := ⟨⟨by omega, by omega, by omega, by omega, fun z => by omega⟩, by omega, by omega, by omega⟩
theorem gz3_l {q j : Nat} (h : 74 ≤ q) (h2 : q ≤ 77) : gz3 q j := ⟨⟨by omega, by omega, by omega, by omega, fun z => by omega⟩, by omega, by omega, by omega⟩
theorem goGo_W {I : xI_T} (h : Wmk I) (hw : Wlaw I) (hr : Wrow I) : ∀ k : Nat, nI k ≤ I 70 45 → k ≤ 20 → Wmk (m_goGo k I) ∧ Wlaw (m_goGo k I)
  | 0, _, _ => ⟨h, hw⟩
  | k + 1, hk, h20 => by
    have hlt : nI k < I 70 45 := by
      rw [i_le, nI_toInt (by omega)] at hk
      rw [i_lt, nI_toInt (by omega)]
      omega
    obtain ⟨w1, w2⟩ := goGo_W h hw hr k (Int32.le_of_lt hlt) (by omega)
    have hc : vp_in (m_goGo k I 96 k) 8 := by
      rw [goGo_o (gz3_q (Or.inl rfl))]
      exact hr.2 k hlt (by omega)
    have g1 := w1.goes1 hc
    have g2 := w2.goes1 (c := m_goGo k I 96 k)
    simp only [m_goGo]
    refine ⟨g1.mv ?_ ?_ fun j _ _ => ?_, g2.mv ?_ fun q j h1 h2 => ?_⟩
    · rw [up2_i _ _ (by decide), up2_i _ _ (by decide), up2_i _ _ (by decide)]
    · rw [up2_i _ _ (by decide), up2_i _ _ (by decide), up2_i _ _ (by decide)]
    · rw [up2_i _ _ (by decide), up2_i _ _ (by decide), up2_i _ _ (by decide)]
    · rw [up2_i _ _ (by decide), up2_i _ _ (by decide), up2_i _ _ (by decide)]
    · rw [up2_i _ _ (by omega), up2_i _ _ (by omega), up2_i _ _ (by omega)]
/-- all that a row's run asks -/
def Wall (I : xI_T) : Prop := Wmk I ∧ Wlaw I ∧ Wrow I
theorem begins_o {I : xI_T} {q j : Nat} (h1 : q ≠ 93) (h2 : q ≠ 95) (h3 : ¬ (q = 70 ∧ j = 43)) : m_begins I q j = I q j := by
  unfold m_begins m_keeps
  rw [fil2_ap, if_neg (fun z => h2 z.1), up2_n _ _ h3, cpy2_ap, if_neg (fun z => h1 z.1)]
theorem Wall.begins {I : xI_T} (h : Wall I) : Wall (m_begins I) := by
  refine ⟨h.1.mv ?_ ?_ fun j _ _ => ?_, h.2.1.mv ?_ fun q j h1 h2 => ?_, h.2.2.mv ?_ fun j => ?_⟩
  all_goals exact begins_o (by omega) (by omega) (by omega)
theorem Wall.goes {I : xI_T} (h : Wall I) : Wall (m_goes I) := by
  obtain ⟨z, hz, ez⟩ := vp_in_of h.2.2.1 (by decide)
  have e : ix (I 70 45) = z := by rw [ez]; exact ix_n (by omega)
  obtain ⟨w1, w2⟩ := goGo_W h.1 h.2.1 h.2.2 z (by rw [ez]; exact Int32.le_refl _) (by omega)
  unfold m_goes
  rw [e]
  exact ⟨w1, w2, h.2.2.mv (goGo_o (gz3_70 (Or.inr (by decide))) z) fun j => goGo_o (gz3_q (Or.inl rfl)) z⟩
theorem told_in {s x : Int32} (hs : vp_in s 6) (hx : vp_in x 60) : vp_in (60 * s + x) 360 := xin_a (xin_m (a := 5) (N := 301) 60 rfl hs (by decide) (by decide)) hx (by decide) (by decide)
theorem readGo_0 {L : xL_T} {s : Int32} {d : Nat} {I : xI_T} (h : 20 ≤ I 70 45) : m_readGo L s (d + 1) I = I := by
  unfold m_readGo
  rw [if_pos h]
theorem readGo_1 {L : xL_T} {s : Int32} {d : Nat} {I : xI_T} (h : ¬ 20 ≤ I 70 45) (h2 : I 91 (ix s) ≤ I 70 45) : m_readGo L s (d + 1) I = I := by
  unfold m_readGo
  rw [if_neg h, if_pos h2]
theorem readGo_2 {L : xL_T} {s : Int32} {d : Nat} {I : xI_T} (h : ¬ 20 ≤ I 70 45) (h2 : ¬ I 91 (ix s) ≤ I 70 45) (h3 : m_isB I (m_told L s (I 70 45)) = 0) : m_readGo L s (d + 1) I = I := by
  unfold m_readGo
  rw [if_neg h, if_neg h2, if_pos h3]
theorem readGo_3 {L : xL_T} {s : Int32} {d : Nat} {I : xI_T} (h : ¬ 20 ≤ I 70 45) (h2 : ¬ I 91 (ix s) ≤ I 70 45) (h3 : ¬ m_isB I (m_told L s (I 70 45)) = 0) : m_readGo L s (d + 1) I = m_readGo L s d (up2 (up2 I 96 (ix (I 70 45)) (m_told L s (I 70 45))) 70 45 (I 70 45 + 1)) := by
  rw [m_readGo, if_neg h, if_neg h2, if_neg h3]
