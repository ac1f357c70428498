/-! WHAT LACKS stands apart: the same with w more of it -/
def sh (w : Int32) (K : xI_T) : xI_T := up2 K 70 43 (K 70 43 + w)
theorem sh_o {w : Int32} {K : xI_T} {q j : Nat} (h : ¬ (q = 70 ∧ j = 43)) : sh w K q j = K q j := up2_n _ _ h
theorem sh_i {w : Int32} {K : xI_T} {q j : Nat} (h : q ≠ 70) : sh w K q j = K q j := up2_i _ _ h
theorem up2_cm {f : xI_T} {i k a b : Nat} {v x : Int32} (h : ¬ (i = a ∧ k = b)) : up2 (up2 f i k v) a b x = up2 (up2 f a b x) i k v := by
  funext q j
  rw [up2_ap, up2_ap, up2_ap, up2_ap]
  by_cases h1 : q = a ∧ j = b
  · rw [if_pos h1, if_neg (by omega), if_pos h1]
  · rw [if_neg h1]
    by_cases h2 : q = i ∧ j = k
    · rw [if_pos h2, if_pos h2]
    · rw [if_neg h2, if_neg h2, if_neg h1]
theorem sh_up {w : Int32} {K : xI_T} {a b : Nat} {v : Int32} (h : ¬ (a = 70 ∧ b = 43)) : up2 (sh w K) a b v = sh w (up2 K a b v) := by
  unfold sh
  rw [up2_n K v (fun z => h ⟨z.1.symm, z.2.symm⟩), up2_cm (f := K) h]
theorem sh_cpy {w : Int32} {K : xI_T} {a o b p c : Nat} (ha : a ≠ 70) (hb : b ≠ 70) : cpy2 (sh w K) a o b p c = sh w (cpy2 K a o b p c) := by
  funext q j
  rw [cpy2_ap]
  by_cases h : q = a ∧ o ≤ j ∧ j < o + c
  · rw [if_pos h, sh_i hb, sh_i (by omega), cpy2_ap, if_pos h]
  · rw [if_neg h]
    by_cases h2 : q = 70 ∧ j = 43
    · rw [h2.1, h2.2]
      unfold sh
      rw [up2_s, up2_s, cpy2_ap, if_neg (by omega)]
    · rw [sh_o h2, sh_o h2, cpy2_ap, if_neg h]
theorem sh_fil {w : Int32} {K : xI_T} {a lo hi : Nat} {v : Int32} (ha : a ≠ 70) : fil2 (sh w K) a lo hi v = sh w (fil2 K a lo hi v) := by
  funext q j
  rw [fil2_ap]
  by_cases h : q = a ∧ lo ≤ j ∧ j < hi
  · rw [if_pos h, sh_i (by omega), fil2_ap, if_pos h]
  · rw [if_neg h]
    by_cases h2 : q = 70 ∧ j = 43
    · rw [h2.1, h2.2]
      unfold sh
      rw [up2_s, up2_s, fil2_ap, if_neg (by omega)]
    · rw [sh_o h2, sh_o h2, fil2_ap, if_neg h]
theorem sh_shift {w : Int32} {K : xI_T} {c : Nat} : m_shift (sh w K) c = sh w (m_shift K c) := by
  funext q j
  by_cases h2 : q = 70 ∧ j = 43
  · rw [h2.1, h2.2, mshift_q (by decide)]
    unfold sh
    rw [up2_s, up2_s, mshift_q (by decide)]
  · rw [sh_o h2]
    unfold m_shift
    rw [sh_i (show (72 : Nat) ≠ 70 by decide), sh_o h2]
theorem sh_none {w : Int32} {K : xI_T} : m_none (sh w K) = sh w (m_none K) := by
  unfold m_none
  rw [sh_up (by decide), sh_up (by decide), sh_up (by decide)]
theorem sh_first {w : Int32} {K : xI_T} {f : Int32} : m_first (sh w K) f = sh w (m_first K f) := by
  unfold m_first
  rw [sh_o (by decide)]
  by_cases h : K 70 40 = 8
  · rw [if_pos h, if_pos h, sh_up (by decide)]
  · rw [if_neg h, if_neg h]
theorem sh_payTo {w : Int32} {K : xI_T} {f m c : Int32} : m_payTo (sh w K) f m c = sh w (m_payTo K f m c) := by
  unfold m_payTo
  simp only
  rw [sh_i (show (72 : Nat) ≠ 70 by decide)]
  generalize jmin m (K 72 (ix f)) = v
  have e4 : up2 (sh w K) 70 43 (sh w K 70 43 + (m - v)) = sh w (up2 K 70 43 (K 70 43 + (m - v))) := by
    unfold sh
    rw [up2_s, up2_s]
    funext q j
    by_cases h : q = 70 ∧ j = 43
    · rw [h.1, h.2, up2_s, up2_s, Int32.add_assoc, Int32.add_comm w, ← Int32.add_assoc]
    · rw [up2_n _ _ h, up2_n _ _ h, up2_n _ _ h, up2_n _ _ h]
  rw [e4]
  generalize up2 K 70 43 (K 70 43 + (m - v)) = K4
  rw [sh_o (show ¬ ((70 : Nat) = 70 ∧ (41 : Nat) = 43) by decide), sh_up (show ¬ ((70 : Nat) = 70 ∧ (41 : Nat) = 43) by decide)]
  generalize up2 K4 70 41 (K4 70 41 + v) = K5
  rw [sh_i (show (95 : Nat) ≠ 70 by decide), sh_up (fun z => absurd z.1 (by decide))]
  generalize up2 K5 95 (ix (8 * f + c)) (K5 95 (ix (8 * f + c)) + v) = K6
  rw [sh_i (show (72 : Nat) ≠ 70 by decide), sh_up (fun z => absurd z.1 (by decide))]
  generalize up2 K6 72 (ix f) (K6 72 (ix f) - v) = K7
  rw [sh_i (show (72 : Nat) ≠ 70 by decide), sh_up (fun z => absurd z.1 (by decide))]
theorem sh_pays {w : Int32} {K : xI_T} {c : Int32} : m_pays (sh w K) c = sh w (m_pays K c) := by
  unfold m_pays
  simp only
  rw [sh_i (show (72 : Nat) ≠ 70 by decide), sh_i (show (72 : Nat) ≠ 70 by decide), sh_i (show (72 : Nat) ≠ 70 by decide), sh_up (fun z => absurd z.1 (by decide)), sh_shift, sh_first]
  by_cases h : K 72 19 = c
  · rw [if_pos h, if_pos h]
  · rw [if_neg h, if_neg h, sh_payTo]
theorem sh_payAll {w : Int32} {c : Int32} : ∀ (d : Nat) (K : xI_T), m_payAll c d (sh w K) = sh w (m_payAll c d K)
  | 0, _ => rfl
  | d + 1, K => by
    unfold m_payAll
    rw [sh_i (show (72 : Nat) ≠ 70 by decide), sh_o (show ¬ ((70 : Nat) = 70 ∧ (2 : Nat) = 43) by decide)]
    by_cases h : K 72 18 < K 70 2
    · rw [if_pos h, if_pos h]
    · rw [if_neg h, if_neg h, sh_pays]
      exact sh_payAll d _
theorem sh_step {w : Int32} {K : xI_T} {c : Int32} {t : Nat} : m_step (sh w K) c t = (sh w (m_step K c t).1, (m_step K c t).2) := by
  unfold m_step
  by_cases h1 : 18 ≤ c
  · rw [if_pos h1, if_pos h1, sh_up (fun z => absurd z.1 (by decide))]
  · rw [if_neg h1, if_neg h1]
    by_cases h2 : 5 < c
    · rw [if_pos h2, if_pos h2]
      by_cases h3 : c = 16
      · rw [if_pos h3, if_pos h3, sh_i (by decide), sh_up (fun z => absurd z.1 (by decide))]
      · rw [if_neg h3, if_neg h3]
        by_cases h4 : c = 17
        · rw [if_pos h4, if_pos h4, sh_i (by decide), sh_up (fun z => absurd z.1 (by decide))]
        · rw [if_neg h4, if_neg h4, sh_i (by decide), sh_i (by decide), sh_up (fun z => absurd z.1 (by decide))]
    · rw [if_neg h2, if_neg h2, sh_i (by decide), sh_up (fun z => absurd z.1 (by decide))]
theorem sh_run {w : Int32} {K : xI_T} {f : Nat} : ∀ k : Nat, m_run f k (sh w K, 0) = (sh w (m_run f k (K, 0)).1, (m_run f k (K, 0)).2)
  | 0 => rfl
  | k + 1 => by
    show m_step (m_run f k (sh w K, 0)).1 ((m_run f k (sh w K, 0)).1 77 (f + k)) (m_run f k (sh w K, 0)).2 = _
    rw [sh_run k, sh_step]
    dsimp only
    rw [sh_i (by decide)]
    rfl
theorem sh_work {w : Int32} {K : xI_T} {f g : Nat} : m_work (sh w K) f g = sh w (m_work K f g) := by
  unfold m_work
  rw [sh_run]
theorem sh_names {w : Int32} {K : xI_T} {c : Int32} : m_names (sh w K) c = sh w (m_names K c) := by
  unfold m_names
  rw [sh_i (show (71 : Nat) ≠ 70 by decide), sh_i (show (71 : Nat) ≠ 70 by decide), sh_i (show (72 : Nat) ≠ 70 by decide), sh_i (show (72 : Nat) ≠ 70 by decide), sh_i (show (72 : Nat) ≠ 70 by decide), sh_up (by decide), sh_up (by decide), sh_up (by decide), sh_up (by decide), sh_up (by decide)]
theorem sh_byGo {w : Int32} : ∀ (d i : Nat) (K : xI_T), m_byGo d i (sh w K) = ((m_byGo d i K).1, sh w (m_byGo d i K).2)
  | 0, _, _ => rfl
  | d + 1, i, K => by
    unfold m_byGo
    simp only
    rw [sh_o (show ¬ ((70 : Nat) = 70 ∧ (8 : Nat) = 43) by decide), sh_i (show (75 : Nat) ≠ 70 by decide), sh_i (show (74 : Nat) ≠ 70 by decide), sh_i (show (76 : Nat) ≠ 70 by decide)]
    by_cases h1 : K 70 8 ≤ nI i
    · rw [if_pos h1, if_pos h1]
    · rw [if_neg h1, if_neg h1]
      by_cases h2 : K 75 i ≤ K 74 i
      · rw [if_pos h2, if_pos h2, sh_work, sh_i (by decide)]
      · rw [if_neg h2, if_neg h2, sh_work]
        generalize m_work K (ix (K 74 i)) (ix (K 75 i)) = P
        rw [sh_i (show (82 : Nat) ≠ 70 by decide), sh_i (show (75 : Nat) ≠ 70 by decide), sh_i (show (76 : Nat) ≠ 70 by decide)]
        by_cases h3 : P 82 0 = 0
        · rw [if_pos h3, if_pos h3]
          exact sh_byGo d (i + 1) P
        · rw [if_neg h3, if_neg h3, sh_work, sh_i (by decide)]
theorem sh_buys {w : Int32} {K : xI_T} {c p : Int32} : m_buys (sh w K) c p = ((m_buys K c p).1, sh w (m_buys K c p).2) := by
  unfold m_buys
  simp only
  rw [sh_up (fun z => absurd z.1 (by decide))]
  generalize up2 K 83 1 p = P
  rw [sh_o (show ¬ ((70 : Nat) = 70 ∧ (7 : Nat) = 43) by decide), sh_i (show (71 : Nat) ≠ 70 by decide), sh_i (show (71 : Nat) ≠ 70 by decide), sh_i (show (72 : Nat) ≠ 70 by decide)]
  by_cases h : P 70 7 = 0
  · rw [if_pos h, if_pos h]
  · rw [if_neg h, if_neg h]
    unfold m_byLaw
    rw [sh_names, sh_byGo]
theorem sh_book1 {w : Int32} {K : xI_T} {c : Int32} : m_book1 (sh w K) c = sh w (m_book1 K c) := by
  unfold m_book1
  simp only
  rw [sh_i (show (72 : Nat) ≠ 70 by decide), sh_up (fun z => absurd z.1 (by decide))]
  generalize up2 K 72 (ix (19 + K 72 18)) c = K1
  rw [sh_i (show (72 : Nat) ≠ 70 by decide), sh_o (show ¬ ((70 : Nat) = 70 ∧ (42 : Nat) = 43) by decide), sh_up (fun z => absurd z.1 (by decide))]
  generalize up2 K1 72 (ix (25 + K1 72 18)) (K1 70 42) = K2
  rw [sh_i (show (72 : Nat) ≠ 70 by decide), sh_up (fun z => absurd z.1 (by decide))]
  generalize up2 K2 72 18 (K2 72 18 + 1) = K3
  rw [sh_i (show (72 : Nat) ≠ 70 by decide), sh_up (fun z => absurd z.1 (by decide))]
  generalize up2 K3 72 9 (K3 72 9 + 1) = K4
  rw [sh_i (show (72 : Nat) ≠ 70 by decide), sh_up (fun z => absurd z.1 (by decide))]
theorem sh_goes1 {w : Int32} {K : xI_T} {c : Int32} : m_goes1 (sh w K) c = sh w (m_goes1 K c) := by
  unfold m_goes1
  simp only
  rw [sh_none]
  generalize m_none K = P
  have eo : m_out (sh w P) c = m_out P c := by
    unfold m_out
    rw [sh_i (show (71 : Nat) ≠ 70 by decide), sh_o (show ¬ ((70 : Nat) = 70 ∧ (3 : Nat) = 43) by decide)]
  rw [eo]
  by_cases h : m_out P c = true
  · rw [if_pos h, if_pos h]
  · rw [if_neg h, if_neg h, sh_payAll, sh_i (show (72 : Nat) ≠ 70 by decide), sh_buys, sh_up (by decide), sh_book1]
theorem sh_ends {w : Int32} {K : xI_T} : m_ends (sh w K) = sh w (m_ends K) := by
  unfold m_ends
  rw [sh_i (show (72 : Nat) ≠ 70 by decide), sh_up (fun z => absurd z.1 (by decide)), sh_fil (by decide)]
theorem sh_turn {w : Int32} {a b : Int32} : ∀ (d i : Nat) (K : xI_T), m_turn a b d i (sh w K) = ((m_turn a b d i K).1, sh w (m_turn a b d i K).2)
  | 0, i, K => by
    unfold m_turn
    rw [sh_i (show (72 : Nat) ≠ 70 by decide), sh_i (show (72 : Nat) ≠ 70 by decide)]
  | d + 1, i, K => by
    unfold m_turn
    simp only
    rw [sh_turn d (i + 1) K]
    generalize m_turn a b d (i + 1) K = o
    simp only [m_keeps, m_lays]
    rw [sh_cpy (by decide) (by decide), sh_goes1, sh_turn d (i + 1)]
    simp only
    rw [sh_cpy (by decide) (by decide)]
theorem sh_sh {w x : Int32} {K : xI_T} : sh w (sh x K) = sh (x + w) K := by
  unfold sh
  rw [up2_s]
  funext q j
  by_cases h : q = 70 ∧ j = 43
  · rw [h.1, h.2, up2_s, up2_s, Int32.add_assoc]
  · rw [up2_n _ _ h, up2_n _ _ h, up2_n _ _ h]
theorem sh_set {x : Int32} {K : xI_T} : sh (x - K 70 43) K = up2 K 70 43 x := by
  unfold sh
  rw [Int32.add_comm, Int32.sub_add_cancel]
