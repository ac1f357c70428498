/-! IMAGES -/
theorem image_J {J : xI_T} : (m_image J).1 = J 84 0 ∧ (∀ q k : Nat, ¬ (q = 85 ∨ q = 86 ∨ (q = 70 ∧ (k = 24 ∨ k = 25))) → (m_image J).2 q k = J q k) ∧ (m_image J).2 70 24 = 1 ∧ (m_image J).2 70 25 = J 70 0 ∧ (∀ k : Nat, k < 31 → (m_image J).2 85 k = J 72 k) ∧ ∀ k : Nat, k < 5 → (m_image J).2 86 k = J 84 k := by
  have e : (m_image J).2 = cpy2 (m_keeps (up2 (up2 J 70 24 1) 70 25 (J 70 0)) 85 0) 86 0 84 0 5 := rfl
  refine ⟨rfl, fun q k z => ?_, ?_, ?_, fun k hk => ?_, fun k hk => ?_⟩
  · rw [e, cpy2_ap, if_neg (by omega), keeps_o (Or.inl (by omega)), up2_n _ _ (by omega), up2_n _ _ (by omega)]
  · rw [e, cpy2_ap, if_neg (by omega), keeps_o (Or.inl (by decide)), up2_k _ _ (by decide), up2_s]
  · rw [e, cpy2_ap, if_neg (by omega), keeps_o (Or.inl (by decide)), up2_s]
  · have z := keeps_a (I := up2 (up2 J 70 24 1) 70 25 (J 70 0)) (a := 85) (o := 0) hk
    rw [Nat.zero_add] at z
    rw [e, cpy2_ap, if_neg (by omega), z, up2_i _ _ (by decide), up2_i _ _ (by decide)]
  · rw [e, cpy2_ap, if_pos ⟨rfl, Nat.zero_le _, by omega⟩, keeps_o (Or.inl (by decide)), up2_i _ _ (by decide), up2_i _ _ (by decide)]
    congr 1
    omega
