/-! DEEDS, on both sides -/
theorem BUY.pur {n : Nat} {Ty : Nat → xs_T} {I I' : xI_T} {F : xF_T} {J J' : xI_T} (h : BUY n Ty I F J) (hI : ∀ q k : Nat, 103 ≤ q → q < n → Ty q = some (.inl 4) → 1 ≤ k → I' q k = I q k) (hp : ∀ b q : Nat, b < ix (J 70 0) → F 1 b = some q → 103 ≤ q → q < n → Ty q = some (.inl 4) → I' q 0 = J' 72 b) (h0 : J' 70 0 = J 70 0) (h71 : ∀ k : Nat, J' 71 k = J 71 k) : BUY n Ty I' F J' := fun b hb => by
  rw [h0] at hb
  obtain ⟨q, a1, a2, a3, a4, a5, a6, a7, a8⟩ := h b hb
  refine ⟨q, a1, a2, a3, hp b q hb a1 a2.1 a2.2 a3, ?_, ?_, ?_, ?_⟩
  · rw [hI q 1 a2.1 a2.2 a3 (by decide), h71]; exact a5
  · rw [hI q 2 a2.1 a2.2 a3 (by decide), h71]; exact a6
  · rw [hI q 3 a2.1 a2.2 a3 (by decide), h71]; exact a7
  · rw [h71]; exact a8
theorem NOW.rc {I J : xI_T} (h : RC I J 6) : NOW I J := ⟨h.2.1.1, h.2.2.1, fun k hk => (h.1 k hk).2.2, h.2.1.2⟩
theorem dynI.b {n : Nat} {Ty : Nat → xs_T} {I I' : xI_T} (h : ∀ q k : Nat, 103 ≤ q → q < n → ¬ (Ty q = some (.inl 4) ∧ k = 0) → I' q k = I q k) : dynI n Ty I I' := fun q k c h1 h2 h3 h4 => h q k h1 h2 (fun z => by rw [h3] at z; have := z.1; injection this with e; injection e with e2; exact h4 e2)
theorem dynA.b {n : Nat} {Ty : Nat → xs_T} {I I' : xI_T} {L : xL_T} (h : ∀ q k : Nat, 103 ≤ q → q < n → ¬ (Ty q = some (.inl 4) ∧ k = 0) → I' q k = I q k) : dynA n Ty I I' L L := fun q k t h1 h2 h3 => ⟨h q k h1 h2 (fun z => by rw [h3] at z; have := z.1; injection this with e; cases e), rfl⟩
theorem gives_1 {J : xI_T} {x y : Nat} {v : Int32} (h1 : ¬ m_isB J (nI x) = 0) (h2 : ¬ m_isB J (nI y) = 0) (h3 : ¬ nI x = nI y) (h4 : ¬ inR v 1 999 = 0) (hx : x < 8) (hy : y < 8) : m_gives J (nI x) (nI y) v = if J 72 x < v then (-5, J) else (up2 (up2 (up2 J 72 x (J 72 x - v)) 72 y (jmin 999 (J 72 y + v))) 84 4 (J 84 4 + v) 72 x, up2 (up2 (up2 J 72 x (J 72 x - v)) 72 y (jmin 999 (J 72 y + v))) 84 4 (J 84 4 + v)) := by
  have hxy : y ≠ x := fun e => h3 (by rw [e])
  unfold m_gives
  rw [if_neg h1, if_neg h2, if_neg h3, if_neg h4, ix_n (show x < 2147483648 by omega), ix_n (show y < 2147483648 by omega)]
  by_cases h5 : J 72 x < v
  · rw [if_pos h5, if_pos h5]
  · rw [if_neg h5, if_neg h5]
    simp only
    rw [up2_k J (J 72 x - v) hxy, up2_i _ _ (show (84 : Nat) ≠ 72 by decide), up2_i _ _ (show (84 : Nat) ≠ 72 by decide)]
theorem comes_1 {J : xI_T} {x : Nat} (h : ¬ m_isB J (nI x) = 0) (hx : x < 8) : m_comes J (nI x) = (m_goes1 (up2 J 70 43 0) (nI x) 70 41, up2 (up2 (up2 (m_goes1 (up2 J 70 43 0) (nI x)) 84 0 (J 84 0 + (if m_out J (nI x) = true then 0 else 1))) 84 1 (J 84 1 + m_goes1 (up2 J 70 43 0) (nI x) 70 41)) 84 2 (J 84 2 + m_goes1 (up2 J 70 43 0) (nI x) 70 43)) := by
  have eo : m_out (m_none (up2 J 70 43 0)) (nI x) = m_out J (nI x) := by
    rw [none_out hx]
    unfold m_out
    rw [up2_i _ _ (by decide), up2_k _ _ (by decide)]
  have e84 : ∀ k : Nat, m_goes1 (up2 J 70 43 0) (nI x) 84 k = J 84 k := fun k => by rw [goes1_o (gz_q ⟨by decide, by decide, by decide, by decide, by decide⟩), up2_i _ _ (by decide)]
  unfold m_comes m_goes1R
  rw [if_neg h]
  simp only
  rw [eo]
  generalize m_goes1 (up2 J 70 43 0) (nI x) = K at e84
  by_cases ho : m_out J (nI x) = true
  · have e : up2 K 84 0 (J 84 0) = K := by
      funext q j
      by_cases z : q = 84 ∧ j = 0
      · rw [z.1, z.2, up2_s, e84]
      · rw [up2_n _ _ z]
    rw [if_pos ho]
    simp [up2_ap, e84, e]
  · rw [if_neg ho]
    simp [up2_ap, e84]
theorem lay_E6 {n : Nat} {Ty : Nat → xs_T} {I A : xI_T} {F : xF_T} {J : xI_T} (h : RL n Ty I F J) (hA : ∀ b : Nat, b < ix (J 70 0) → A 7 b = J 72 b ∧ A 8 b = J 71 b) (hf : Fr (fun q _ => q = 7 ∨ q = 8) I A) (hM : Wmk J) : (∀ J' : xI_T, eqL J J' → RC (k_like (up2 (up2 (up2 A 6 7 (A 0 2)) 6 8 (up2 A 6 7 (A 0 2) 0 4)) 6 9 0) 34 6) J' 6) ∧ Fr lset I (k_like (up2 (up2 (up2 A 6 7 (A 0 2)) 6 8 (up2 A 6 7 (A 0 2) 0 4)) 6 9 0) 34 6) := by
  refine ⟨fun J' e => ?_, (lay_E h hA hf hM).2⟩
  rw [up2_i _ _ (show (0 : Nat) ≠ 6 by decide), hf 0 2 (by decide), hf 0 4 (by decide)]
  exact (lay_R h hA hf e.1.1 e.1.2.1 e.1.2.2 e.2.1 e.2.2 hM).mv31 (e.M hM) (fun q k h1 h2 => klike_o (by omega)) rfl rfl rfl (fun _ _ => rfl) (fun _ _ => rfl)
theorem back_1 {J : xI_T} (h : ¬ J 70 24 = 0) : m_back J = (cpy2 (m_backN J 31) 84 0 86 0 5 84 0, cpy2 (m_backN J 31) 84 0 86 0 5) := by
  unfold m_back
  rw [if_neg h]
theorem backJ_o {J : xI_T} {q j : Nat} (h : q ≠ 72) (h2 : q ≠ 84) : cpy2 (m_backN J 31) 84 0 86 0 5 q j = J q j := by
  rw [cpy2_ap, if_neg (fun z => h2 z.1)]
  unfold m_backN
  rw [if_neg (fun z => h z.1)]
theorem backJ_84 {J : xI_T} {j : Nat} (h : j < 5) : cpy2 (m_backN J 31) 84 0 86 0 5 84 j = J 86 j := by
  rw [cpy2_ap, if_pos ⟨rfl, Nat.zero_le _, by omega⟩]
  unfold m_backN
  rw [if_neg (fun z => absurd z.1 (by decide))]
  congr 1
  omega
theorem backJ_72 {J : xI_T} {kb j : Nat} (hk : J 70 25 = nI kb) (hk9 : kb < 9) (h : j < 31) : cpy2 (m_backN J 31) 84 0 86 0 5 72 j = if (j < 8 ∧ kb ≤ j) ∨ (10 + kb ≤ j ∧ j < 18) then J 72 j else J 85 j := by
  rw [cpy2_ap, if_neg (fun z => absurd z.1 (by decide))]
  unfold m_backN
  have e : sinc (J 70 25) j ↔ (j < 8 ∧ kb ≤ j) ∨ (10 + kb ≤ j ∧ j < 18) := by
    unfold sinc
    rw [hk, show (10 : Int32) + nI kb = nI (10 + kb) from nI_add 10 kb, nI_leI (by omega) (by omega), nI_leI (by omega) (by omega)]
  by_cases z : (j < 8 ∧ kb ≤ j) ∨ (10 + kb ≤ j ∧ j < 18)
  · rw [if_neg (fun y => y.2.2 (e.mpr z)), if_pos z]
  · rw [if_pos ⟨rfl, h, fun y => z (e.mp y)⟩, if_neg z]
theorem pays_j {K : xI_T} {c : Int32} {j : Nat} (h : Wmk K) (hc : vp_in c 8) (hj : 8 ≤ j) (hj2 : j < 18) : m_pays K c 72 j = K 72 j := by
  rw [pays_72 (h.2.2.2.2 19 (by decide) (by decide)) hc hj]
  unfold m_shift
  rw [if_neg (by omega), if_neg (by omega), up2_k _ _ (by omega)]
theorem payAll_j {c : Int32} {j : Nat} (hc : vp_in c 8) (hj : 8 ≤ j) (hj2 : j < 18) : ∀ (d : Nat) (K : xI_T), ix (K 72 18) < d → Wmk K → m_payAll c d K 72 j = K 72 j
  | 0, K, h, _ => absurd h (Nat.not_lt_zero _)
  | d + 1, K, h, hM => by
    by_cases hlt : K 72 18 < K 70 2
    · rw [payAll_0 hlt]
    · have h0 := third_0 hM hlt
      rw [payAll_1 hlt, payAll_j hc hj hj2 d _ (by rw [pays_18 hM hc h0]; exact ix_pred hM.2.2.2.1 h0 h) (hM.pays hc h0), pays_j hM hc hj hj2]
theorem goes1_j {K : xI_T} {x j : Nat} (hM : Wmk K) (hx8 : x < 8) (hj : 8 ≤ j) (hj2 : j < 18) (hj9 : j ≠ 9) (hjx : j ≠ 10 + x) : m_goes1 K (nI x) 72 j = K 72 j := by
  have hc : vp_in (nI x) 8 := vp_in_nI hx8 (by decide)
  by_cases ho : m_out (m_none K) (nI x) = true
  · rw [goes1_0 ho, none_i (by decide)]
  · rw [goes1_1 ho]
    have hMn := hM.none
    have e := payAll_j hc hj hj2 7 (m_none K) (ix_7 hMn.2.2.2.1) hMn
    obtain ⟨w1, w2⟩ := payAll_W hc 7 (m_none K) (ix_7 hMn.2.2.2.1) hMn
    rw [none_i (show (72 : Nat) ≠ 70 by decide) (j := j)] at e
    generalize m_payAll (nI x) 7 (m_none K) = P at e w1 w2
    obtain ⟨z, hz5, ez⟩ := vp_in_of (third_5 w1 w2) (by decide)
    have k18 : up2 (m_buys P (nI x) (m_none K 72 (ix (nI x)))).2 70 42 (m_buys P (nI x) (m_none K 72 (ix (nI x)))).1 72 18 = nI z := by rw [up2_i _ _ (by decide), buys_o (by decide) (by decide)]; exact ez
    generalize hY : up2 (m_buys P (nI x) (m_none K 72 (ix (nI x)))).2 70 42 (m_buys P (nI x) (m_none K 72 (ix (nI x)))).1 = Y at k18
    have y8 : Y 72 j = K 72 j := by rw [← hY, up2_i _ _ (by decide), buys_o (by decide) (by decide)]; exact e
    have x1 : ix (19 + nI z) = 19 + z := by rw [show (19 : Int32) + nI z = nI (19 + z) from nI_add 19 z]; exact ix_n (by omega)
    have x2 : ix (25 + nI z) = 25 + z := by rw [show (25 : Int32) + nI z = nI (25 + z) from nI_add 25 z]; exact ix_n (by omega)
    have x3 : ix (10 + nI x) = 10 + x := by rw [show (10 : Int32) + nI x = nI (10 + x) from nI_add 10 x]; exact ix_n (by omega)
    simp only [m_book1, k18, x1, x3]
    rw [up2_k _ _ (by omega), up2_k _ _ (by omega), up2_k _ _ (by omega), up2_k Y _ (by omega), k18, x2, up2_k _ _ (by omega), up2_k _ _ (by omega)]
    exact y8
theorem kpays_3 {I : xI_T} {g x b : Nat} {f o : Int32} (hg : 34 ≤ g) (hf : ix f < 8) : k_pays (k_first (k_take I g) f) g f o (nI x) (g + 3) b = I (g + 3) b := by
  have e : k_first (k_take I g) f (g + 3) b = I (g + 3) b := by rw [kfirst_o (by omega), ktake_o (by omega) (by omega) (by omega)]
  unfold k_pays
  split
  · exact e
  · simp only []
    rw [up2_i _ _ (by omega), up2_i _ _ (by omega), up2_i _ _ (by omega), up2_i _ _ (by omega), up2_i _ _ (by omega)]
    exact e
theorem kbook_3 {I : xI_T} {g x b : Nat} {v : Int32} (hg : 34 ≤ g) (hb : b ≠ x) : k_book I g x v (g + 3) b = I (g + 3) b := by
  unfold k_book k_owe
  rw [up2_k _ _ hb, up2_i _ _ (by omega), up2_i _ _ (by omega), up2_i _ _ (by omega), up2_i _ _ (by omega), up2_i _ _ (by omega)]
theorem knone_3 {I : xI_T} {g b : Nat} (hg : 34 ≤ g) : k_none I (g + 3) b = I (g + 3) b := knone_o (by omega)
