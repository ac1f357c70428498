/-! WHAT ONE BUYS, on both sides -/
theorem buys_n {J : xI_T} {x : Nat} {p : Int32} (h7 : J 70 7 = 0) (hx : x < 8) : (m_buys J (nI x) p).1 = jmax 0 (jmin 99 (5 * J 71 x + J 71 (8 + x) - 2 * J 72 (10 + x))) := by
  rw [buys_0 (by rw [up2_i _ _ (by decide)]; exact h7)]
  rw [show (8 : Int32) + nI x = nI (8 + x) from nI_add 8 x, show (10 : Int32) + nI x = nI (10 + x) from nI_add 10 x, ix_n (show x < 2147483648 by omega), ix_n (show 8 + x < 2147483648 by omega), ix_n (show 10 + x < 2147483648 by omega), up2_i _ _ (by decide), up2_i _ _ (by decide), up2_i _ _ (by decide)]
theorem names_83 {J : xI_T} {x : Nat} {p : Int32} (hx : x < 8) : m_names (up2 J 83 1 p) (nI x) 83 0 = J 71 x ∧ m_names (up2 J 83 1 p) (nI x) 83 1 = p ∧ m_names (up2 J 83 1 p) (nI x) 83 2 = J 71 (8 + x) ∧ m_names (up2 J 83 1 p) (nI x) 83 3 = J 72 9 ∧ m_names (up2 J 83 1 p) (nI x) 83 4 = J 72 (10 + x) ∧ m_names (up2 J 83 1 p) (nI x) 83 5 = J 72 8 := by
  have e1 : ix (8 + nI x) = 8 + x := by rw [show (8 : Int32) + nI x = nI (8 + x) from nI_add 8 x]; exact ix_n (by omega)
  have e2 : ix (10 + nI x) = 10 + x := by rw [show (10 : Int32) + nI x = nI (10 + x) from nI_add 10 x]; exact ix_n (by omega)
  simp only [m_names, e1, e2, ix_n (show x < 2147483648 by omega)]
  refine ⟨?_, ?_, ?_, ?_, ?_, ?_⟩
  all_goals simp [up2_ap]
theorem buys_lines {n : Nat} {Ty : Nat → xs_T} {I : xI_T} {F : xF_T} {J : xI_T} {q0 x : Nat} {p : Int32} (hl : linesIs n Ty I F J (ix (J 70 8)) 0 (F 0 10)) (hq : F 0 10 = some q0) (hW : Wlaw J) : ∃ m0 : Nat, 0 + (m0 + 1) = ix (m_names (up2 J 83 1 p) (nI x) 70 8) ∧ linesIs n Ty I F (m_names (up2 J 83 1 p) (nI x)) (m0 + 1) 0 (F 0 10) ∧ Wlaw (m_names (up2 J 83 1 p) (nI x)) := by
  have o : ∀ q j : Nat, q ≠ 83 → m_names (up2 J 83 1 p) (nI x) q j = J q j := fun q j h => by rw [names_o h, up2_i _ _ h]
  rw [o 70 8 (by decide)]
  have hm : ix (J 70 8) ≠ 0 := fun z => by
    rw [z, hq] at hl
    exact absurd hl (by simp [linesIs])
  obtain ⟨m0, e⟩ : ∃ m0 : Nat, ix (J 70 8) = m0 + 1 := ⟨ix (J 70 8) - 1, by omega⟩
  refine ⟨m0, by omega, ?_, hW.mv (o 70 8 (by decide)) fun q j h1 h2 => o q j (by omega)⟩
  rw [e] at hl
  exact hl.mv (fun _ _ _ => rfl) (fun q k h1 h2 => o q k (by omega)) _ _ _
theorem buys_nm {I J J51 J62 J81 J95 J111 J125 : xI_T} {g x q : Nat} {p : Int32} (hx8 : x < 8) (hR : RC I J g) (hq2 : I q 2 = J 71 (8 + x)) (hq : 103 ≤ q) (hx : x < ix (J 70 0)) (hg : 34 ≤ g) (e51 : J51 = up2 I 5 119 (I (g + 2) x)) (e62 : J62 = up2 J51 5 112 p) (e81 : J81 = up2 J62 5 104 (J62 q 2)) (e95 : J95 = up2 J81 5 110 (J81 g 6)) (e111 : J111 = up2 J95 5 111 (J95 (g + 3) x)) (e125 : J125 = up2 J111 5 100 (J111 g 8)) : NM J125 (m_names (up2 J 83 1 p) (nI x) 83) := by
  obtain ⟨n0, n1, n2, n3, n4, n5⟩ := names_83 (J := J) (p := p) hx8
  obtain ⟨r1, r2, r3⟩ := hR.1 x hx
  obtain ⟨-, -, r6, -, r8, -⟩ := hR
  unfold NM
  rw [n0, n1, n2, n3, n4, n5]
  subst e51 e62 e81 e95 e111 e125
  rw [← r2, ← hq2, ← r6, ← r3, ← r8]
  refine ⟨?_, ?_, ?_, ?_, ?_, ?_⟩
  · rw [up2_k _ _ (by decide), up2_k _ _ (by decide), up2_k _ _ (by decide), up2_k _ _ (by decide), up2_k _ _ (by decide), up2_s]
  · rw [up2_k _ _ (by decide), up2_k _ _ (by decide), up2_k _ _ (by decide), up2_k _ _ (by decide), up2_s]
  · rw [up2_k _ _ (by decide), up2_k _ _ (by decide), up2_k _ _ (by decide), up2_s, up2_i _ _ (show q ≠ 5 by omega), up2_i _ _ (show q ≠ 5 by omega)]
  · rw [up2_k _ _ (by decide), up2_k _ _ (by decide), up2_s, up2_i _ _ (show g ≠ 5 by omega), up2_i _ _ (show g ≠ 5 by omega), up2_i _ _ (show g ≠ 5 by omega)]
  · rw [up2_k _ _ (by decide), up2_s, up2_i _ _ (show g + 3 ≠ 5 by omega), up2_i _ _ (show g + 3 ≠ 5 by omega), up2_i _ _ (show g + 3 ≠ 5 by omega), up2_i _ _ (show g + 3 ≠ 5 by omega)]
  · rw [up2_s, up2_i _ _ (show g ≠ 5 by omega), up2_i _ _ (show g ≠ 5 by omega), up2_i _ _ (show g ≠ 5 by omega), up2_i _ _ (show g ≠ 5 by omega), up2_i _ _ (show g ≠ 5 by omega)]
theorem open_s {K : xI_T} (h : Wmk K) (h0 : ¬ K 72 18 = 0) : ∃ z : Nat, z ≤ 4 ∧ K 72 18 = nI (z + 1) := by
  obtain ⟨q, hq, e⟩ := vp_in_of h.2.2.2.1 (by decide)
  have h1 : q ≠ 0 := fun z => h0 (by rw [e, z]; rfl)
  exact ⟨q - 1, by omega, by rw [e, show q - 1 + 1 = q by omega]⟩
