/-! FRAMES AND BOUNDS of the reference's coming: what it leaves alone, and that its market stays in bounds -/
theorem Wmk.mv {I J : xI_T} (h : Wmk I) (h0 : J 70 0 = I 70 0) (h2 : J 70 2 = I 70 2) (h7 : ∀ j : Nat, 18 ≤ j → j < 25 → J 72 j = I 72 j) : Wmk J := by
  obtain ⟨a, b, c, d, e⟩ := h
  refine ⟨by rw [h0]; exact a, by rw [h2]; exact b, by rw [h2]; exact c, by rw [h7 18 (by decide) (by decide)]; exact d, fun k hk hk2 => ?_⟩
  rw [h7 k (by omega) hk2]
  exact e k hk hk2
theorem byGo_o {q j : Nat} (h : q ≠ 82) : ∀ (d i : Nat) (I : xI_T), (m_byGo d i I).2 q j = I q j
  | 0, _, _ => rfl
  | d + 1, i, I => by
    by_cases c : I 70 8 ≤ nI i
    · rw [byGo_0 c]
    · by_cases c2 : I 75 i ≤ I 74 i
      · rw [byGo_1 c c2]
        exact mwork_o h
      · by_cases c3 : m_work I (ix (I 74 i)) (ix (I 75 i)) 82 0 = 0
        · rw [byGo_2 c c2 rfl c3, byGo_o h d]
          exact mwork_o h
        · rw [byGo_3 c c2 rfl c3]
          exact (mwork_o h).trans (mwork_o h)
theorem names_o {I : xI_T} {c : Int32} {q j : Nat} (h : q ≠ 83) : m_names I c q j = I q j := by
  simp [m_names, up2_ap, h]
theorem byLaw_o {I : xI_T} {c : Int32} {q j : Nat} (h : q ≠ 82) (h3 : q ≠ 83) : (m_byLaw I c).2 q j = I q j := (byGo_o h _ _ _).trans (names_o h3)
theorem buys_o {I : xI_T} {c p : Int32} {q j : Nat} (h : q ≠ 82) (h3 : q ≠ 83) : (m_buys I c p).2 q j = I q j := by
  have e : up2 I 83 1 p q j = I q j := up2_i I p h3
  by_cases hc : up2 I 83 1 p 70 7 = 0
  · rw [buys_0 hc]
    exact e
  · rw [buys_1 hc]
    exact (byLaw_o h h3).trans e
/-- what a coming leaves alone -/
def gz (q j : Nat) : Prop := q ≠ 72 ∧ q ≠ 82 ∧ q ≠ 83 ∧ q ≠ 95 ∧ (q = 70 → j < 40 ∨ 43 < j)
theorem mshift_q {I : xI_T} {c q j : Nat} (h : q ≠ 72) : m_shift I c q j = I q j := by
  unfold m_shift
  rw [if_neg (fun z => h z.1), if_neg (fun z => h z.1)]
theorem first_o {I : xI_T} {w : Int32} {q j : Nat} (h : ¬ (q = 70 ∧ j = 40)) : m_first I w q j = I q j := by
  unfold m_first
  split
  · exact up2_n I w h
  · rfl
theorem payTo_o {I : xI_T} {w m c : Int32} {q j : Nat} (h : gz q j) : m_payTo I w m c q j = I q j := by
  obtain ⟨h1, h2, h3, h4, h5⟩ := h
  have h43 : ¬ (q = 70 ∧ j = 43) := fun z => by have := h5 z.1; omega
  have h41 : ¬ (q = 70 ∧ j = 41) := fun z => by have := h5 z.1; omega
  simp only [m_payTo, up2_ap]
  rw [if_neg (fun z => h1 z.1), if_neg (fun z => h1 z.1), if_neg (fun z => h4 z.1), if_neg h41, if_neg h43]
theorem pays_o {I : xI_T} {c : Int32} {q j : Nat} (h : gz q j) : m_pays I c q j = I q j := by
  have e : m_first (m_shift (up2 I 72 18 (I 72 18 - 1)) (ix (I 72 18 - 1))) (I 72 19) q j = I q j := by
    rw [first_o (fun z => by have := h.2.2.2.2 z.1; omega), mshift_q h.1]
    exact up2_i I _ h.1
  unfold m_pays
  by_cases hc : I 72 19 = c
  · simp only [if_pos hc]
    exact e
  · simp only [if_neg hc]
    exact (payTo_o h).trans e
theorem ix_ne {x : Int32} {j : Nat} (h : vp_in x 8) (hj : 8 ≤ j) : ¬ j = ix x := by
  obtain ⟨q, hq, rfl⟩ := vp_in_of h (by decide)
  rw [ix_n (by omega)]
  omega
theorem payTo_72 {I : xI_T} {w m c : Int32} {j : Nat} (hw : vp_in w 8) (hc : vp_in c 8) (hj : 8 ≤ j) : m_payTo I w m c 72 j = I 72 j := by
  simp only [m_payTo, up2_ap]
  rw [if_neg (fun z => ix_ne hc hj z.2), if_neg (fun z => ix_ne hw hj z.2), if_neg (by omega), if_neg (by omega), if_neg (by omega)]
theorem pays_72 {I : xI_T} {c : Int32} {j : Nat} (hw : vp_in (I 72 19) 8) (hc : vp_in c 8) (hj : 8 ≤ j) : m_pays I c 72 j = m_shift (up2 I 72 18 (I 72 18 - 1)) (ix (I 72 18 - 1)) 72 j := by
  have e : m_first (m_shift (up2 I 72 18 (I 72 18 - 1)) (ix (I 72 18 - 1))) (I 72 19) 72 j = m_shift (up2 I 72 18 (I 72 18 - 1)) (ix (I 72 18 - 1)) 72 j := first_o (by omega)
  unfold m_pays
  by_cases h : I 72 19 = c
  · simp only [if_pos h]
    exact e
  · simp only [if_neg h]
    exact (payTo_72 hw hc hj).trans e
theorem pays_18 {I : xI_T} {c : Int32} (h : Wmk I) (hc : vp_in c 8) (hop : ¬ I 72 18 = 0) : m_pays I c 72 18 = I 72 18 - 1 := by
  rw [pays_72 (h.2.2.2.2 19 (by decide) (by decide)) hc (by decide)]
  obtain ⟨z, hz, ez⟩ := vp_in_of (xin_p (N := 6) h.2.2.2.1 hop (by decide)) (by decide)
  rw [mshift_o (Or.inr (Or.inl (by decide))) (by rw [ez, ix_n (by omega)]; omega)]
  exact up2_s I 72 18 _
theorem Wmk.pays {I : xI_T} {c : Int32} (h : Wmk I) (hc : vp_in c 8) (hop : ¬ I 72 18 = 0) : Wmk (m_pays I c) := by
  have g : ∀ j : Nat, j < 40 → gz 70 j := fun j hj => ⟨by decide, by decide, by decide, by decide, fun _ => Or.inl hj⟩
  obtain ⟨z, hz, ez⟩ := vp_in_of (xin_p (N := 6) h.2.2.2.1 hop (by decide)) (by decide)
  refine ⟨by rw [pays_o (g 0 (by decide))]; exact h.1, by rw [pays_o (g 2 (by decide))]; exact h.2.1, by rw [pays_o (g 2 (by decide))]; exact h.2.2.1, ?_, fun k hk hk2 => ?_⟩
  · rw [pays_18 h hc hop]
    exact xin_mono (xin_p (N := 6) h.2.2.2.1 hop (by decide)) (by decide)
  · rw [pays_72 (h.2.2.2.2 19 (by decide) (by decide)) hc (by omega), ez, ix_n (by omega)]
    unfold m_shift
    by_cases h1 : 19 ≤ k ∧ k < 19 + z
    · rw [if_pos ⟨rfl, h1⟩, up2_k I _ (by omega)]
      exact h.2.2.2.2 (k + 1) (by omega) (by omega)
    · rw [if_neg (fun q => h1 q.2), if_neg (by omega), up2_k I _ (by omega)]
      exact h.2.2.2.2 k hk hk2
theorem Wlaw.pays {I : xI_T} {c : Int32} (h : Wlaw I) : Wlaw (m_pays I c) := h.mv (pays_o ⟨by decide, by decide, by decide, by decide, fun _ => Or.inl (by decide)⟩) fun q j h1 h2 => pays_o ⟨by omega, by omega, by omega, by omega, fun z => by omega⟩
theorem Wlaw.buys {I : xI_T} {c p : Int32} (h : Wlaw I) : Wlaw (m_buys I c p).2 := h.mv (buys_o (by decide) (by decide)) fun q j h1 h2 => buys_o (by omega) (by omega)
theorem Wmk.buys {I : xI_T} {c p : Int32} (h : Wmk I) : Wmk (m_buys I c p).2 := h.mv (buys_o (by decide) (by decide)) (buys_o (by decide) (by decide)) fun j _ _ => buys_o (by decide) (by decide)
theorem third_0 {I : xI_T} (h : Wmk I) (hge : ¬ I 72 18 < I 70 2) : ¬ I 72 18 = 0 := by
  intro e
  rw [e] at hge
  have h1 := h.2.1
  have h2 := h.2.2.1
  rw [vp_in_iff] at h1
  rw [i_eq, show (0 : Int32).toInt = 0 from rfl] at h2
  rw [i_lt, show (0 : Int32).toInt = 0 from rfl] at hge
  omega
theorem third_5 {I : xI_T} (h : Wmk I) (hlt : I 72 18 < I 70 2) : vp_in (I 72 18) 5 := by
  have h1 := h.2.1
  have h2 := h.2.2.2.1
  rw [vp_in_iff] at h1 h2 ⊢
  rw [i_lt] at hlt
  omega
theorem ix_pred {x : Int32} {e : Nat} (h : vp_in x 6) (h0 : ¬ x = 0) (he : ix x < e + 1) : ix (x - 1) < e := by
  obtain ⟨q, hq, rfl⟩ := vp_in_of h (by decide)
  rw [ix_n (by omega)] at he
  have h1 : 1 ≤ q := by
    rcases Nat.eq_zero_or_pos q with z | z
    · subst z
      exact absurd rfl h0
    · exact z
  rw [nI_m1 h1, ix_n (by omega)]
  omega
theorem payAll_0 {I : xI_T} {c : Int32} {d : Nat} (h : I 72 18 < I 70 2) : m_payAll c (d + 1) I = I := by
  unfold m_payAll
  exact if_pos h
theorem payAll_1 {I : xI_T} {c : Int32} {d : Nat} (h : ¬ I 72 18 < I 70 2) : m_payAll c (d + 1) I = m_payAll c d (m_pays I c) := by
  rw [m_payAll]
  exact if_neg h
theorem payAll_o {c : Int32} {q j : Nat} (h : gz q j) : ∀ (d : Nat) (I : xI_T), m_payAll c d I q j = I q j
  | 0, _ => rfl
  | d + 1, I => by
    by_cases hc : I 72 18 < I 70 2
    · rw [payAll_0 hc]
    · rw [payAll_1 hc, payAll_o h d]
      exact pays_o h
theorem payAll_W {c : Int32} (hc : vp_in c 8) : ∀ (d : Nat) (I : xI_T), ix (I 72 18) < d → Wmk I → Wmk (m_payAll c d I) ∧ m_payAll c d I 72 18 < m_payAll c d I 70 2
  | 0, _, h, _ => absurd h (Nat.not_lt_zero _)
  | d + 1, I, hd, h => by
    by_cases hlt : I 72 18 < I 70 2
    · rw [payAll_0 hlt]
      exact ⟨h, hlt⟩
    · rw [payAll_1 hlt]
      have h0 := third_0 h hlt
      exact payAll_W hc d _ (by rw [pays_18 h hc h0]; exact ix_pred h.2.2.2.1 h0 hd) (h.pays hc h0)
theorem book1_o {I : xI_T} {c : Int32} {q j : Nat} (h : q ≠ 72) : m_book1 I c q j = I q j := by
  simp [m_book1, up2_ap, h]
theorem Wmk.book1 {I : xI_T} {c : Int32} (h : Wmk I) (hc : vp_in c 8) (hlt : I 72 18 < I 70 2) : Wmk (m_book1 I c) := by
  obtain ⟨q, hq, eq⟩ := vp_in_of (third_5 h hlt) (by decide)
  obtain ⟨z, hz, rfl⟩ := vp_in_of hc (by decide)
  have e1 : ix (19 + I 72 18) = 19 + q := by
    rw [eq, show (19 : Int32) + nI q = nI (19 + q) from nI_add 19 q]
    exact ix_n (by omega)
  have e2 : ix (25 + I 72 18) = 25 + q := by
    rw [eq, show (25 : Int32) + nI q = nI (25 + q) from nI_add 25 q]
    exact ix_n (by omega)
  have e3 : ix (10 + nI z) = 10 + z := by
    rw [show (10 : Int32) + nI z = nI (10 + z) from nI_add 10 z]
    exact ix_n (by omega)
  have k1 : up2 I 72 (19 + q) (nI z) 72 18 = I 72 18 := up2_k I _ (by omega)
  refine ⟨by rw [book1_o (by decide)]; exact h.1, by rw [book1_o (by decide)]; exact h.2.1, by rw [book1_o (by decide)]; exact h.2.2.1, ?_, fun k hk hk2 => ?_⟩
  · simp only [m_book1, e1, k1, e2, e3]
    rw [up2_k _ _ (by omega), up2_k _ _ (by omega), up2_s, up2_k _ _ (by omega), k1, eq, nI_1]
    exact vp_in_nI (by omega) (by decide)
  · simp only [m_book1, e1, k1, e2, e3]
    rw [up2_k _ _ (by omega), up2_k _ _ (by omega), up2_k _ _ (by omega), up2_k _ _ (by omega), up2_ap]
    by_cases hkq : k = 19 + q
    · rw [if_pos ⟨rfl, hkq⟩]
      exact hc
    · rw [if_neg (fun y => hkq y.2)]
      exact h.2.2.2.2 k hk hk2
theorem none_o {I : xI_T} {q j : Nat} (h : gz q j) : m_none I q j = I q j := by
  have h5 := h.2.2.2.2
  simp only [m_none, up2_ap]
  rw [if_neg (fun z => by have := h5 z.1; omega), if_neg (fun z => by have := h5 z.1; omega), if_neg (fun z => by have := h5 z.1; omega)]
theorem none_i {I : xI_T} {q j : Nat} (h : q ≠ 70) : m_none I q j = I q j := by
  simp [m_none, up2_ap, h]
theorem Wmk.none {I : xI_T} (h : Wmk I) : Wmk (m_none I) := h.mv (none_o ⟨by decide, by decide, by decide, by decide, fun _ => Or.inl (by decide)⟩) (none_o ⟨by decide, by decide, by decide, by decide, fun _ => Or.inl (by decide)⟩) fun j _ _ => none_i (by decide)
theorem Wlaw.none {I : xI_T} (h : Wlaw I) : Wlaw (m_none I) := h.mv (none_o ⟨by decide, by decide, by decide, by decide, fun _ => Or.inl (by decide)⟩) fun q j h1 h2 => none_i (by omega)
theorem goes1_0 {I : xI_T} {c : Int32} (h : m_out (m_none I) c = true) : m_goes1 I c = m_none I := by
  simp only [m_goes1, h, if_true]
theorem goes1_1 {I : xI_T} {c : Int32} (h : ¬ m_out (m_none I) c = true) : m_goes1 I c = m_book1 (up2 (m_buys (m_payAll c 7 (m_none I)) c (m_none I 72 (ix c))).2 70 42 (m_buys (m_payAll c 7 (m_none I)) c (m_none I 72 (ix c))).1) c := by
  simp only [m_goes1, if_neg h]
theorem goes1_o {I : xI_T} {c : Int32} {q j : Nat} (h : gz q j) : m_goes1 I c q j = I q j := by
  by_cases ho : m_out (m_none I) c = true
  · rw [goes1_0 ho]
    exact none_o h
  · rw [goes1_1 ho, book1_o h.1, up2_n _ _ (fun z => by have := h.2.2.2.2 z.1; omega), buys_o h.2.1 h.2.2.1, payAll_o h]
    exact none_o h
theorem ix_7 {x : Int32} (h : vp_in x 6) : ix x < 7 := by
  have := (nI_ix h (by decide)).2
  omega
theorem Wmk.goes1 {I : xI_T} {c : Int32} (h : Wmk I) (hc : vp_in c 8) : Wmk (m_goes1 I c) := by
  by_cases ho : m_out (m_none I) c = true
  · rw [goes1_0 ho]
    exact h.none
  · rw [goes1_1 ho]
    obtain ⟨w1, w2⟩ := payAll_W hc 7 (m_none I) (ix_7 h.none.2.2.2.1) h.none
    refine Wmk.book1 ?_ hc ?_
    · exact w1.buys.mv (up2_k _ _ (by decide)) (up2_k _ _ (by decide)) fun j _ _ => up2_i _ _ (by decide)
    · rw [up2_i _ _ (by decide), up2_k _ _ (by decide), buys_o (by decide) (by decide), buys_o (by decide) (by decide)]
      exact w2
theorem Wlaw.goes1 {I : xI_T} {c : Int32} (h : Wlaw I) : Wlaw (m_goes1 I c) := h.mv (goes1_o ⟨by decide, by decide, by decide, by decide, fun _ => Or.inl (by decide)⟩) fun q j h1 h2 => goes1_o ⟨by omega, by omega, by omega, by omega, fun z => by omega⟩
theorem ne_18 {x : Int32} (h : vp_in x 5) : ix (19 + x) ≠ 18 := by
  obtain ⟨q, hq, rfl⟩ := vp_in_of h (by decide)
  rw [show (19 : Int32) + nI q = nI (19 + q) from nI_add 19 q, ix_n (by omega)]
  omega
