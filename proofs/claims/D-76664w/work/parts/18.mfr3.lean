/-! BOUNDS of a row that was read -/
theorem readGo_o {L : xL_T} {s : Int32} {q j : Nat} (h : q ≠ 96) (h2 : ¬ (q = 70 ∧ j = 45)) : ∀ (d : Nat) (I : xI_T), m_readGo L s d I q j = I q j
  | 0, _ => rfl
  | d + 1, I => by
    by_cases c1 : 20 ≤ I 70 45
    · rw [readGo_0 c1]
    · by_cases c2 : I 91 (ix s) ≤ I 70 45
      · rw [readGo_1 c1 c2]
      · by_cases c3 : m_isB I (m_told L s (I 70 45)) = 0
        · rw [readGo_2 c1 c2 c3]
        · rw [readGo_3 c1 c2 c3, readGo_o h h2 d, up2_n _ _ h2, up2_i _ _ h]
theorem reads_o {I : xI_T} {L : xL_T} {s : Int32} {q j : Nat} (h : q ≠ 96) (h2 : ¬ (q = 70 ∧ j = 45)) : m_reads I L s q j = I q j := by
  unfold m_reads
  rw [readGo_o h h2, up2_n _ _ h2]
theorem readGo_W {L : xL_T} {s : Int32} : ∀ (d k : Nat) (I : xI_T), I 70 45 = nI k → k ≤ 20 → vp_in (I 70 0) 9 → Wrow I → Wrow (m_readGo L s d I)
  | 0, _, _, _, _, _, h => h
  | d + 1, k, I, ek, hk, hb, h => by
    by_cases c1 : 20 ≤ I 70 45
    · rw [readGo_0 c1]
      exact h
    · by_cases c2 : I 91 (ix s) ≤ I 70 45
      · rw [readGo_1 c1 c2]
        exact h
      · by_cases c3 : m_isB I (m_told L s (I 70 45)) = 0
        · rw [readGo_2 c1 c2 c3]
          exact h
        · have hk2 : k < 20 := by
            rw [ek] at c1
            exact Nat.not_le.mp fun q => c1 (nI_le q (by omega))
          rw [readGo_3 c1 c2 c3]
          refine readGo_W d (k + 1) _ (by rw [up2_s, ek]; exact nI_1 k) (by omega) (by rw [up2_k _ _ (by decide), up2_i _ _ (by decide)]; exact hb) ⟨?_, fun j hj h20 => ?_⟩
          · rw [up2_s, ek, nI_1]
            exact vp_in_nI (by omega) (by decide)
          · rw [up2_s, ek, nI_1] at hj
            have hj2 : j < k + 1 := (nI_ltI (by omega) (by omega)).mp hj
            rw [up2_i _ _ (by decide), up2_ap, ek, ix_n (by omega)]
            by_cases e : j = k
            · rw [if_pos ⟨rfl, e⟩, ← ek]
              exact isB_in hb c3
            · rw [if_neg (fun z => e z.2)]
              exact h.2 j (by rw [ek]; exact nI_lt (by omega) (by omega)) h20
theorem reads_W {I : xI_T} {L : xL_T} {s : Int32} (hb : vp_in (I 70 0) 9) : Wrow (m_reads I L s) := by
  unfold m_reads
  refine readGo_W 21 0 _ (up2_s _ _ _ _) (by decide) (by rw [up2_k _ _ (by decide)]; exact hb) ⟨by rw [up2_s]; exact xk rfl, fun j hj h20 => ?_⟩
  rw [up2_s] at hj
  exact absurd hj (by rw [i_lt, nI_toInt (by omega), show (0 : Int32).toInt = 0 from rfl]; omega)
/-- what the operations stand on -/
def Wtop (I : xI_T) : Prop := Wmk I ∧ Wlaw I
theorem Wtop.reads {I : xI_T} {L : xL_T} {s : Int32} (h : Wtop I) : Wall (m_reads I L s) :=
  ⟨h.1.mv (reads_o (by decide) (by omega)) (reads_o (by decide) (by omega)) fun j _ _ => reads_o (by decide) (by omega), h.2.mv (reads_o (by decide) (by omega)) fun q j h1 h2 => reads_o (by omega) (by omega), reads_W h.1.1⟩
theorem Wall.behind {I : xI_T} (h : Wall I) : Wall (m_behind I) := h.begins.goes
def m_marketB (I : xI_T) (L : xL_T) (s one w : Int32) : Int32 × xI_T :=
  if m_noB I s < 0 then (m_noB I s, I) else (m_1pick (m_behind (m_reads I L s)) w one, m_lays (m_behind (m_reads I L s)) 93 0)
theorem inR_s {s : Int32} (h : ¬ inR s 0 5 = 0) : vp_in s 6 := xinR h (by decide)
