/-! A COMING, on both sides: what is booked -/
theorem out_iff {J : xI_T} {x : Nat} (hx : x < 8) : m_out J (nI x) = true ↔ J 71 (16 + x) = 1 ∧ J 70 3 = 0 := by
  unfold m_out
  rw [show (16 : Int32) + nI x = nI (16 + x) from nI_add 16 x, ix_n (by omega)]
  exact decide_eq_true_iff
theorem none_out {J : xI_T} {x : Nat} (hx : x < 8) : m_out (m_none J) (nI x) = m_out J (nI x) := by
  apply Bool.eq_iff_iff.mpr
  rw [out_iff hx, out_iff hx, none_i (by decide), none_o ⟨by decide, by decide, by decide, by decide, fun _ => Or.inl (by decide)⟩]
def k_none (I : xI_T) : xI_T := up2 (up2 (up2 I 0 15 8) 0 16 0) 0 17 0
theorem knone_o {I : xI_T} {q j : Nat} (h : ¬ (q = 0 ∧ 15 ≤ j ∧ j ≤ 17)) : k_none I q j = I q j := by
  unfold k_none
  rw [up2_n _ _ (by omega), up2_n _ _ (by omega), up2_n _ _ (by omega)]
theorem none_R {I J : xI_T} {g : Nat} (hR : RC I J g) (hb : ix (J 70 0) ≤ 8) (hg : 34 ≤ g) : RC (k_none I) (m_none J) g ∧ RQ (k_none I) (m_none J) ∧ (RP I J → RP (k_none I) (m_none J)) := by
  have g70 : ∀ j : Nat, (j < 40 ∨ 43 ≤ j) → m_none J 70 j = J 70 j := fun j hj => by
    simp only [m_none, up2_ap]
    rw [if_neg (by omega), if_neg (by omega), if_neg (by omega)]
  refine ⟨hR.mv (fun q k h1 h2 => knone_o (by omega)) (g70 0 (by decide)) (g70 2 (by decide)) (g70 43 (by decide)) (fun k _ => none_i (by decide)) (fun k => none_i (by decide)) hb, ⟨rfl, rfl, rfl⟩, fun h s t hs ht => ?_⟩
  rw [knone_o (by omega), none_i (by decide)]
  exact h s t hs ht
/-- what a coming books, of its bought v -/
def k_book (I : xI_T) (g x : Nat) (v : Int32) : xI_T := up2 (up2 (k_owe (up2 I 0 17 v) g (nI x) v) g 6 (k_owe (up2 I 0 17 v) g (nI x) v g 6 + 1)) (g + 3) x (up2 (k_owe (up2 I 0 17 v) g (nI x) v) g 6 (k_owe (up2 I 0 17 v) g (nI x) v g 6 + 1) (g + 3) x + 1)
theorem book_R {I J K : xI_T} {g x z : Nat} {v : Int32} (hR : RC I J g) (hQ : RQ I J) (hb : ix (J 70 0) ≤ 8) (hx : x < ix (J 70 0)) (hz : J 72 18 = nI z) (hz5 : z < 5) (hg : 34 ≤ g) (hK : ∀ q j : Nat, q ≠ 82 → q ≠ 83 → K q j = J q j) : RC (k_book I g x v) (m_book1 (up2 K 70 42 v) (nI x)) g ∧ RQ (k_book I g x v) (m_book1 (up2 K 70 42 v) (nI x)) ∧ (RP I J → RP (k_book I g x v) (m_book1 (up2 K 70 42 v) (nI x))) := by
  obtain ⟨a, ⟨b1, b2⟩, c, d, e, f⟩ := hR
  obtain ⟨q1, q2, q3⟩ := hQ
  have hg5 : ix (I g 5) = z := by rw [b1, hz]; exact ix_n (by omega)
  have e0 : k_owe (up2 I 0 17 v) g (nI x) v = up2 (up2 (up2 (up2 I 0 17 v) (g + 4) z (nI x)) (g + 5) z v) g 5 (nI (z + 1)) := by
    unfold k_owe
    rw [up2_i I v (show g ≠ 0 by omega), hg5, b1, hz, nI_1]
  have eI : k_book I g x v = up2 (up2 (up2 (up2 (up2 (up2 I 0 17 v) (g + 4) z (nI x)) (g + 5) z v) g 5 (nI (z + 1))) g 6 (I g 6 + 1)) (g + 3) x (I (g + 3) x + 1) := by
    unfold k_book
    rw [e0, up2_k _ _ (show 6 ≠ 5 by decide), up2_i _ _ (show g ≠ g + 5 by omega), up2_i _ _ (show g ≠ g + 4 by omega), up2_i _ _ (show g ≠ 0 by omega), up2_i _ _ (show g + 3 ≠ g by omega), up2_i _ _ (show g + 3 ≠ g by omega), up2_i _ _ (show g + 3 ≠ g + 5 by omega), up2_i _ _ (show g + 3 ≠ g + 4 by omega), up2_i _ _ (show g + 3 ≠ 0 by omega)]
  have x1 : ix (19 + nI z) = 19 + z := by rw [show (19 : Int32) + nI z = nI (19 + z) from nI_add 19 z]; exact ix_n (by omega)
  have x2 : ix (25 + nI z) = 25 + z := by rw [show (25 : Int32) + nI z = nI (25 + z) from nI_add 25 z]; exact ix_n (by omega)
  have x3 : ix (10 + nI x) = 10 + x := by rw [show (10 : Int32) + nI x = nI (10 + x) from nI_add 10 x]; exact ix_n (by omega)
  have k18 : up2 K 70 42 v 72 18 = nI z := by rw [up2_i _ _ (by decide), hK _ _ (by decide) (by decide)]; exact hz
  have eJ : m_book1 (up2 K 70 42 v) (nI x) = up2 (up2 (up2 (up2 (up2 (up2 K 70 42 v) 72 (19 + z) (nI x)) 72 (25 + z) v) 72 18 (nI (z + 1))) 72 9 (J 72 9 + 1)) 72 (10 + x) (J 72 (10 + x) + 1) := by
    simp only [m_book1, k18, x1]
    rw [up2_k _ _ (show 18 ≠ 19 + z by omega), k18, x2, up2_i _ _ (show (70 : Nat) ≠ 72 by decide), up2_s, up2_k _ _ (show 18 ≠ 25 + z by omega), up2_k _ _ (show 18 ≠ 19 + z by omega), k18, nI_1, up2_k _ _ (show 9 ≠ 18 by decide), up2_k _ _ (show 9 ≠ 25 + z by omega), up2_k _ _ (show 9 ≠ 19 + z by omega), up2_i _ _ (show (72 : Nat) ≠ 70 by decide), hK 72 9 (by decide) (by decide), x3, up2_k _ _ (show 10 + x ≠ 9 by omega), up2_k _ _ (show 10 + x ≠ 18 by omega), up2_k _ _ (show 10 + x ≠ 25 + z by omega), up2_k _ _ (show 10 + x ≠ 19 + z by omega), up2_i _ _ (show (72 : Nat) ≠ 70 by decide), hK 72 (10 + x) (by decide) (by decide)]
  rw [eI, eJ]
  have hI : ∀ q j : Nat, ¬ (q = 0 ∧ j = 17) → q ≠ g + 4 → q ≠ g + 5 → ¬ (q = g ∧ (j = 5 ∨ j = 6)) → q ≠ g + 3 → up2 (up2 (up2 (up2 (up2 (up2 I 0 17 v) (g + 4) z (nI x)) (g + 5) z v) g 5 (nI (z + 1))) g 6 (I g 6 + 1)) (g + 3) x (I (g + 3) x + 1) q j = I q j := fun q j z1 z2 z3 z4 z5 => by rw [up2_i _ _ z5, up2_n _ _ (by omega), up2_n _ _ (by omega), up2_i _ _ z3, up2_i _ _ z2, up2_n _ _ z1]
  have hJ : ∀ q j : Nat, q ≠ 82 → q ≠ 83 → (q = 72 → j < 9 ∨ (10 ≤ j ∧ j < 18 ∧ j ≠ 10 + x)) → ¬ (q = 70 ∧ j = 42) → up2 (up2 (up2 (up2 (up2 (up2 K 70 42 v) 72 (19 + z) (nI x)) 72 (25 + z) v) 72 18 (nI (z + 1))) 72 9 (J 72 9 + 1)) 72 (10 + x) (J 72 (10 + x) + 1) q j = J q j := fun q j z1 z2 z3 z4 => by rw [up2_n _ _ (by omega), up2_n _ _ (by omega), up2_n _ _ (by omega), up2_n _ _ (by omega), up2_n _ _ (by omega), up2_n _ _ z4, hK q j z1 z2]
  have j18 : up2 (up2 (up2 (up2 (up2 (up2 K 70 42 v) 72 (19 + z) (nI x)) 72 (25 + z) v) 72 18 (nI (z + 1))) 72 9 (J 72 9 + 1)) 72 (10 + x) (J 72 (10 + x) + 1) 72 18 = nI (z + 1) := by rw [up2_k _ _ (by omega), up2_k _ _ (by omega), up2_s]
  refine ⟨⟨fun k hk => ⟨?_, ?_, ?_⟩, ⟨?_, fun k hk => ⟨?_, ?_, ?_⟩⟩, ?_, ?_, ?_, ?_⟩, ⟨?_, ?_, ?_⟩, fun hP s t hs ht => ?_⟩
  · rw [hJ 70 0 (by decide) (by decide) (by omega) (by decide)] at hk
    rw [hI _ _ (by omega) (by omega) (by omega) (by omega) (by omega), hJ _ _ (by decide) (by decide) (fun _ => by omega) (by omega)]
    exact (a k hk).1
  · rw [hJ 70 0 (by decide) (by decide) (by omega) (by decide)] at hk
    rw [hI _ _ (by omega) (by omega) (by omega) (by omega) (by omega), hJ _ _ (by decide) (by decide) (by omega) (by omega)]
    exact (a k hk).2.1
  · rw [hJ 70 0 (by decide) (by decide) (by omega) (by decide)] at hk
    by_cases h1 : k = x
    · subst h1
      rw [up2_s, up2_s, (a k hk).2.2]
    · rw [hJ _ _ (by decide) (by decide) (fun _ => by omega) (by omega), up2_k _ _ h1, up2_i _ _ (by omega), up2_i _ _ (by omega), up2_i _ _ (by omega), up2_i _ _ (by omega), up2_i _ _ (by omega)]
      exact (a k hk).2.2
  · rw [j18, up2_i _ _ (by omega), up2_k _ _ (by decide), up2_s]
  · rw [j18, ix_n (by omega)] at hk
    rw [up2_i _ _ (by omega), up2_i _ _ (by omega), up2_i _ _ (by omega), up2_i _ _ (by omega), up2_k _ _ (show 19 + k ≠ 10 + x by omega), up2_k _ _ (show 19 + k ≠ 9 by omega), up2_k _ _ (show 19 + k ≠ 18 by omega), up2_k _ _ (show 19 + k ≠ 25 + z by omega)]
    by_cases h1 : k = z
    · subst h1
      rw [up2_s, up2_s]
    · rw [up2_k _ _ h1, up2_k _ _ (show 19 + k ≠ 19 + z by omega), up2_i _ _ (show g + 4 ≠ 0 by omega), up2_i _ _ (by decide), hK _ _ (by decide) (by decide)]
      exact (b2 k (by rw [hz, ix_n (by omega)]; omega)).1
  · rw [j18, ix_n (by omega)] at hk
    rw [up2_i _ _ (by omega), up2_i _ _ (by omega), up2_i _ _ (by omega), up2_k _ _ (show 25 + k ≠ 10 + x by omega), up2_k _ _ (show 25 + k ≠ 9 by omega), up2_k _ _ (show 25 + k ≠ 18 by omega)]
    by_cases h1 : k = z
    · subst h1
      rw [up2_s, up2_s]
    · rw [up2_k _ _ h1, up2_k _ _ (show 25 + k ≠ 25 + z by omega), up2_k _ _ (show 25 + k ≠ 19 + z by omega), up2_i _ _ (show g + 5 ≠ g + 4 by omega), up2_i _ _ (show g + 5 ≠ 0 by omega), up2_i _ _ (by decide), hK _ _ (by decide) (by decide)]
      exact (b2 k (by rw [hz, ix_n (by omega)]; omega)).2.1
  · rw [j18, ix_n (by omega)] at hk
    rw [hJ 70 0 (by decide) (by decide) (by omega) (by decide), up2_k _ _ (show 19 + k ≠ 10 + x by omega), up2_k _ _ (show 19 + k ≠ 9 by omega), up2_k _ _ (show 19 + k ≠ 18 by omega), up2_k _ _ (show 19 + k ≠ 25 + z by omega)]
    by_cases h1 : k = z
    · subst h1
      rw [up2_s]
      exact ⟨x, hx, rfl⟩
    · rw [up2_k _ _ (by omega), up2_i _ _ (by decide), hK _ _ (by decide) (by decide)]
      exact (b2 k (by rw [hz, ix_n (by omega)]; omega)).2.2
  · rw [up2_i _ _ (by omega), up2_s, up2_k _ _ (show 9 ≠ 10 + x by omega), up2_s, c]
  · rw [hI _ _ (by omega) (by omega) (by omega) (by omega) (by omega), hJ _ _ (by decide) (by decide) (by omega) (by omega)]; exact d
  · rw [hI _ _ (by omega) (by omega) (by omega) (by omega) (by omega), hJ _ _ (by decide) (by decide) (by omega) (by omega)]; exact e
  · rw [hI _ _ (by omega) (by omega) (by omega) (by omega) (by omega), hJ _ _ (by decide) (by decide) (by omega) (by omega)]; exact f
  · rw [hI _ _ (by omega) (by omega) (by omega) (by omega) (by omega), hJ _ _ (by decide) (by decide) (by omega) (by omega)]; exact q1
  · rw [hI _ _ (by omega) (by omega) (by omega) (by omega) (by omega), hJ _ _ (by decide) (by decide) (by omega) (by omega)]; exact q2
  · rw [up2_i _ _ (by omega), up2_i _ _ (by omega), up2_i _ _ (by omega), up2_i _ _ (by omega), up2_i _ _ (by omega), up2_s, up2_i _ _ (by decide), up2_i _ _ (by decide), up2_i _ _ (by decide), up2_i _ _ (by decide), up2_i _ _ (by decide), up2_s]
  · rw [hI _ _ (by omega) (by omega) (by omega) (by omega) (by omega), hJ _ _ (by decide) (by decide) (by omega) (by omega)]
    exact hP s t hs ht
theorem kbook_o {I : xI_T} {g x q j : Nat} {v : Int32} (h : ¬ cset g q j) : k_book I g x v q j = I q j := by
  unfold cset at h
  unfold k_book k_owe
  rw [up2_i _ _ (by omega), up2_n _ _ (by omega), up2_n _ _ (by omega), up2_i _ _ (by omega), up2_i _ _ (by omega), up2_n _ _ (by omega)]
