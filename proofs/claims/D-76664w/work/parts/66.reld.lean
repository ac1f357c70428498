/-! MARKETS copied; rows of comings; what is laid in -/
theorem klike_o {I : xI_T} {g f q j : Nat} (h : q < g ∨ g + 5 < q) : k_like I g f q j = I q j := by
  simp only [k_like]
  rw [up2_i _ _ (by omega), up2_i _ _ (by omega), up2_i _ _ (by omega), up2_i _ _ (by omega), up2_i _ _ (by omega), cpy2_ap, if_neg (by omega), cpy2_ap, if_neg (by omega), cpy2_ap, if_neg (by omega), cpy2_ap, if_neg (by omega), cpy2_ap, if_neg (by omega)]
theorem klike_f {I : xI_T} {g f j : Nat} (hfg : f + 5 < g ∨ g + 5 < f) (hj : 5 ≤ j) (hj9 : j ≤ 9) : k_like I g f g j = I f j := by
  have e : ∀ k : Nat, cpy2 (cpy2 (cpy2 (cpy2 (cpy2 I (g + 1) 0 (f + 1) 0 8) (g + 2) 0 (f + 2) 0 8) (g + 3) 0 (f + 3) 0 8) (g + 4) 0 (f + 4) 0 5) (g + 5) 0 (f + 5) 0 5 f k = I f k := fun k => by
    rw [cpy2_ap, if_neg (by omega), cpy2_ap, if_neg (by omega), cpy2_ap, if_neg (by omega), cpy2_ap, if_neg (by omega), cpy2_ap, if_neg (by omega)]
  have h9 : j = 5 ∨ j = 6 ∨ j = 7 ∨ j = 8 ∨ j = 9 := by omega
  simp only [k_like, up2_i _ _ (show f ≠ g by omega), e]
  rcases h9 with h | h | h | h | h
  all_goals
    subst h
    simp [up2_ap]
theorem klike_a {I : xI_T} {g f a j N : Nat} (hfg : f + 5 < g ∨ g + 5 < f) (ha : (a = 1 ∨ a = 2 ∨ a = 3) ∧ N = 8 ∨ (a = 4 ∨ a = 5) ∧ N = 5) (hj : j < N) : k_like I g f (g + a) j = I (f + a) j := by
  simp only [k_like]
  rw [up2_i _ _ (by omega), up2_i _ _ (by omega), up2_i _ _ (by omega), up2_i _ _ (by omega), up2_i _ _ (by omega)]
  rcases ha with ⟨h | h | h, hN⟩ | ⟨h | h, hN⟩
  · subst h hN
    rw [cpy2_ap, if_neg (by omega), cpy2_ap, if_neg (by omega), cpy2_ap, if_neg (by omega), cpy2_ap, if_neg (by omega), cpy2_ap, if_pos ⟨rfl, by omega, by omega⟩]
    congr 1
    omega
  · subst h hN
    rw [cpy2_ap, if_neg (by omega), cpy2_ap, if_neg (by omega), cpy2_ap, if_neg (by omega), cpy2_ap, if_pos ⟨rfl, by omega, by omega⟩, cpy2_ap, if_neg (by omega)]
    congr 1
    omega
  · subst h hN
    rw [cpy2_ap, if_neg (by omega), cpy2_ap, if_neg (by omega), cpy2_ap, if_pos ⟨rfl, by omega, by omega⟩, cpy2_ap, if_neg (by omega), cpy2_ap, if_neg (by omega)]
    congr 1
    omega
  · subst h hN
    rw [cpy2_ap, if_neg (by omega), cpy2_ap, if_pos ⟨rfl, by omega, by omega⟩, cpy2_ap, if_neg (by omega), cpy2_ap, if_neg (by omega), cpy2_ap, if_neg (by omega)]
    congr 1
    omega
  · subst h hN
    rw [cpy2_ap, if_pos ⟨rfl, by omega, by omega⟩, cpy2_ap, if_neg (by omega), cpy2_ap, if_neg (by omega), cpy2_ap, if_neg (by omega), cpy2_ap, if_neg (by omega)]
    congr 1
    omega
theorem like_R {A J : xI_T} {f g : Nat} (hR : RC A J f) (hM : Wmk J) (hfg : f + 5 < g ∨ g + 5 < f) : RC (k_like A g f) J g := by
  obtain ⟨a, ⟨b1, b2⟩, c, d, e, h⟩ := hR
  obtain ⟨nb, hnb, enb⟩ := vp_in_of hM.1 (by decide)
  obtain ⟨z, hz, ez⟩ := vp_in_of hM.2.2.2.1 (by decide)
  refine ⟨fun k hk => ?_, ⟨?_, fun k hk => ?_⟩, ?_, ?_, ?_, ?_⟩
  · have hk8 : k < 8 := by rw [enb, ix_n (by omega)] at hk; omega
    rw [klike_a (a := 1) hfg (Or.inl ⟨Or.inl rfl, rfl⟩) hk8, klike_a (a := 2) hfg (Or.inl ⟨Or.inr (Or.inl rfl), rfl⟩) hk8, klike_a (a := 3) hfg (Or.inl ⟨Or.inr (Or.inr rfl), rfl⟩) hk8]
    exact a k hk
  · rw [klike_f hfg (by decide) (by decide)]; exact b1
  · have hk5 : k < 5 := by rw [ez, ix_n (by omega)] at hk; omega
    rw [klike_a (a := 4) hfg (Or.inr ⟨Or.inl rfl, rfl⟩) hk5, klike_a (a := 5) hfg (Or.inr ⟨Or.inr rfl, rfl⟩) hk5]
    exact b2 k hk
  · rw [klike_f hfg (by decide) (by decide)]; exact c
  · rw [klike_f hfg (by decide) (by decide)]; exact d
  · rw [klike_f hfg (by decide) (by decide)]; exact e
  · rw [klike_f hfg (by decide) (by decide)]; exact h
/-- what layNow() reads -/
def RL (n : Nat) (Ty : Nat → xs_T) (I : xI_T) (F : xF_T) (J : xI_T) : Prop := (I 0 1 = J 70 0 ∧ I 0 2 = J 70 2 ∧ I 0 4 = J 72 8) ∧ (∀ b : Nat, b < ix (J 70 0) → ∃ q : Nat, F 1 b = some q ∧ (103 ≤ q ∧ q < n) ∧ Ty q = some (.inl 4) ∧ I q 0 = J 72 b ∧ I q 1 = J 71 b) ∧
  (I 6 5 = J 72 18 ∧ I 6 6 = J 72 9 ∧ (∀ k : Nat, k < ix (J 70 0) → I 9 k = J 72 (10 + k)) ∧ ∀ k : Nat, k < ix (J 72 18) → I 10 k = J 72 (19 + k) ∧ I 11 k = J 72 (25 + k) ∧ ∃ w : Nat, w < ix (J 70 0) ∧ J 72 (19 + k) = nI w)
def lset (q k : Nat) : Prop := (q = 6 ∧ 7 ≤ k ∧ k ≤ 9) ∨ q = 7 ∨ q = 8 ∨ (34 ≤ q ∧ q ≤ 39)
/-- a market that was laid in -/
theorem lay_R {n : Nat} {Ty : Nat → xs_T} {I A : xI_T} {F : xF_T} {J J' : xI_T} (h : RL n Ty I F J) (hA : ∀ b : Nat, b < ix (J 70 0) → A 7 b = J 72 b ∧ A 8 b = J 71 b) (hf : Fr (fun q _ => q = 7 ∨ q = 8) I A) (h0 : J' 70 0 = J 70 0) (h2 : J' 70 2 = J 70 2) (h43 : J' 70 43 = 0) (h71 : ∀ k : Nat, k < 8 → J' 71 k = J 71 k) (h72 : ∀ k : Nat, k < 31 → J' 72 k = J 72 k) (hM : Wmk J) : RC (up2 (up2 (up2 A 6 7 (I 0 2)) 6 8 (I 0 4)) 6 9 0) J' 6 := by
  obtain ⟨⟨a1, a2, a3⟩, b, c1, c2, c3, c4⟩ := h
  obtain ⟨nb, hnb, enb⟩ := vp_in_of hM.1 (by decide)
  obtain ⟨z, hz, ez⟩ := vp_in_of hM.2.2.2.1 (by decide)
  have o : ∀ q j : Nat, q ≠ 6 → q ≠ 7 → q ≠ 8 → up2 (up2 (up2 A 6 7 (I 0 2)) 6 8 (I 0 4)) 6 9 0 q j = I q j := fun q j z1 z2 z3 => by
    rw [up2_i _ _ z1, up2_i _ _ z1, up2_i _ _ z1]
    exact hf q j (by omega)
  have o6 : ∀ j : Nat, j < 7 → up2 (up2 (up2 A 6 7 (I 0 2)) 6 8 (I 0 4)) 6 9 0 6 j = I 6 j := fun j z1 => by
    rw [up2_k _ _ (by omega), up2_k _ _ (by omega), up2_k _ _ (by omega)]
    exact hf 6 j (by omega)
  refine ⟨fun k hk => ⟨?_, ?_, ?_⟩, ⟨?_, fun k hk => ?_⟩, ?_, ?_, ?_, ?_⟩
  · rw [h0] at hk
    have hk8 : k < 8 := by rw [enb, ix_n (by omega)] at hk; omega
    rw [up2_i _ _ (by decide), up2_i _ _ (by decide), up2_i _ _ (by decide), h72 k (by omega)]
    exact (hA k hk).1
  · rw [h0] at hk
    have hk8 : k < 8 := by rw [enb, ix_n (by omega)] at hk; omega
    rw [up2_i _ _ (by decide), up2_i _ _ (by decide), up2_i _ _ (by decide), h71 k (by omega)]
    exact (hA k hk).2
  · rw [h0] at hk
    have hk8 : k < 8 := by rw [enb, ix_n (by omega)] at hk; omega
    rw [o _ _ (by decide) (by decide) (by decide), h72 _ (by omega)]
    exact c3 k hk
  · rw [o6 5 (by decide), h72 _ (by omega)]; exact c1
  · rw [h72 _ (by omega)] at hk
    have hk5 : k < 5 := by rw [ez, ix_n (by omega)] at hk; omega
    rw [o _ _ (by decide) (by decide) (by decide), o _ _ (by decide) (by decide) (by decide), h72 _ (by omega), h72 _ (by omega), h0]
    exact c4 k hk
  · rw [o6 6 (by decide), h72 _ (by omega)]; exact c2
  · rw [up2_k _ _ (by decide), up2_k _ _ (by decide), up2_s, h2]; exact a2
  · rw [up2_k _ _ (by decide), up2_s, h72 _ (by omega)]; exact a3
  · rw [up2_s, h43]
/-- a row of z comings, on both sides -/
def RW (I J : xI_T) (z : Nat) : Prop := I 0 19 = nI z ∧ z ≤ 20 ∧ ∀ k : Nat, k < z → I 22 k = J 96 k ∧ ∃ w : Nat, w < ix (J 70 0) ∧ J 96 k = nI w
theorem RW.fr {I I' J J' : xI_T} {z : Nat} (h : RW I J z) (hI : I' 0 19 = I 0 19 ∧ ∀ k : Nat, I' 22 k = I 22 k) (hJ : J' 70 0 = J 70 0 ∧ ∀ k : Nat, J' 96 k = J 96 k) : RW I' J' z := by
  obtain ⟨a, b, c⟩ := h
  refine ⟨by rw [hI.1]; exact a, b, fun k hk => ?_⟩
  rw [hI.2, hJ.2, hJ.1]
  exact c k hk
theorem goGo_s {J : xI_T} {k : Nat} : m_goGo (k + 1) J = up2 (up2 (up2 (m_goes1 (m_goGo k J) (m_goGo k J 96 k)) 97 k (m_goes1 (m_goGo k J) (m_goGo k J 96 k) 70 40)) 98 k (m_goes1 (m_goGo k J) (m_goGo k J 96 k) 70 41)) 99 k (m_goes1 (m_goGo k J) (m_goGo k J 96 k) 70 42) := by
  simp only [m_goGo]
  rw [up2_i _ _ (show (70 : Nat) ≠ 97 by decide), up2_i _ _ (show (70 : Nat) ≠ 98 by decide), up2_i _ _ (show (70 : Nat) ≠ 97 by decide)]
theorem goGo_q {J : xI_T} {k q j : Nat} (h : q ≠ 97 ∧ q ≠ 98 ∧ q ≠ 99) : m_goGo (k + 1) J q j = m_goes1 (m_goGo k J) (m_goGo k J 96 k) q j := by
  rw [goGo_s, up2_i _ _ h.2.2, up2_i _ _ h.2.1, up2_i _ _ h.1]
/-- who paid first, how much, what was bought, at the latest coming of a row -/
def RV (I J : xI_T) (z : Nat) : Prop := I 0 15 = J 97 z ∧ I 0 16 = J 98 z ∧ I 0 17 = J 99 z
def rowF (g z : Nat) (I J I' : xI_T) : Prop := (RC I' (m_goGo z J) g ∧ (RP I J → RP I' (m_goGo z J)) ∧ Fr (cset g) I I') ∧ ∀ k : Nat, z = k + 1 → RV I' (m_goGo z J) k
theorem rowF.zero {g : Nat} {I J : xI_T} (h : RC I J g) : rowF g 0 I J I := ⟨⟨h, id, Fr.rf⟩, fun k z => absurd z (by omega)⟩
theorem rowF.step {g z : Nat} {I J A B : xI_T} (h : rowF g z I J A) (hg : goF g A (m_goGo z J) B (m_goes1 (m_goGo z J) (m_goGo z J 96 z))) (hb : ix (J 70 0) ≤ 8) : rowF g (z + 1) I J B := by
  obtain ⟨g1, g2, g3, g4⟩ := hg
  have e0 : m_goGo z J 70 0 = J 70 0 := goGo_o (gz3_70 (Or.inl (by decide))) z
  have e1 : m_goes1 (m_goGo z J) (m_goGo z J 96 z) 70 0 = J 70 0 := by rw [goes1_o ⟨by decide, by decide, by decide, by decide, fun _ => Or.inl (by decide)⟩]; exact e0
  refine ⟨⟨?_, fun q s t hs ht => ?_, h.1.2.2.tr g4⟩, fun k hk => ?_⟩
  · exact g1.mv (fun _ _ _ _ => rfl) (goGo_q (by decide)) (goGo_q (by decide)) (goGo_q (by decide)) (fun k _ => goGo_q (by decide)) (fun k => goGo_q (by decide)) (by rw [e1]; exact hb)
  · rw [goGo_q (by decide)]
    exact g3 (h.1.2.1 q) s t hs ht
  · have hk2 : z = k := by omega
    subst hk2
    unfold RV
    rw [goGo_s]
    refine ⟨?_, ?_, ?_⟩
    · rw [up2_i _ _ (by decide), up2_i _ _ (by decide), up2_s]; exact g2.1
    · rw [up2_i _ _ (by decide), up2_s]; exact g2.2.1
    · rw [up2_s]; exact g2.2.2
theorem goGo_M {J : xI_T} (h : Wmk J) (hw : Wlaw J) {z : Nat} (hr : ∀ k : Nat, k < z → ∃ w : Nat, w < ix (J 70 0) ∧ J 96 k = nI w) : ∀ k : Nat, k ≤ z → Wmk (m_goGo k J) ∧ Wlaw (m_goGo k J)
  | 0, _ => ⟨h, hw⟩
  | k + 1, hk => by
    obtain ⟨w1, w2⟩ := goGo_M h hw hr k (by omega)
    obtain ⟨nb, hnb, enb⟩ := vp_in_of h.1 (by decide)
    obtain ⟨w, hw9, ew⟩ := hr k (by omega)
    rw [enb, ix_n (by omega)] at hw9
    have e96 : m_goGo k J 96 k = nI w := by rw [goGo_o (gz3_q (Or.inl rfl))]; exact ew
    have hc : vp_in (m_goGo k J 96 k) 8 := by rw [e96]; exact vp_in_nI (by omega) (by decide)
    exact ⟨(w1.goes1 hc).mv (goGo_q (by decide)) (goGo_q (by decide)) fun j _ _ => goGo_q (by decide), (w2.goes1 (c := m_goGo k J 96 k)).mv (goGo_q (by decide)) fun q j h1 h2 => goGo_q (by omega)⟩
theorem lay_s {I A J : xI_T} {q k : Nat} (hA : ∀ b : Nat, b < k → A 7 b = J 72 b ∧ A 8 b = J 71 b) (hf : Fr (fun q _ => q = 7 ∨ q = 8) I A) (hq : 103 ≤ q) (h0 : I q 0 = J 72 k) (h1 : I q 1 = J 71 k) : (∀ b : Nat, b < k + 1 → up2 (up2 A 7 k (A q 0)) 8 k (up2 A 7 k (A q 0) q 1) 7 b = J 72 b ∧ up2 (up2 A 7 k (A q 0)) 8 k (up2 A 7 k (A q 0) q 1) 8 b = J 71 b) ∧ Fr (fun q _ => q = 7 ∨ q = 8) I (up2 (up2 A 7 k (A q 0)) 8 k (up2 A 7 k (A q 0) q 1)) := by
  refine ⟨fun b hb => ?_, (hf.up (Or.inl rfl)).up (Or.inr rfl)⟩
  rw [up2_i _ _ (show q ≠ 7 by omega), hf q 0 (by omega), hf q 1 (by omega), h0, h1]
  by_cases h : b = k
  · subst h
    exact ⟨by rw [up2_i _ _ (by decide), up2_s], up2_s _ _ _ _⟩
  · rw [up2_i _ _ (by decide), up2_k _ _ h, up2_k _ _ h, up2_i _ _ (by decide)]
    exact hA b (by omega)
def eqL (J J' : xI_T) : Prop := (J' 70 0 = J 70 0 ∧ J' 70 2 = J 70 2 ∧ J' 70 43 = 0) ∧ (∀ k : Nat, k < 8 → J' 71 k = J 71 k) ∧ ∀ k : Nat, k < 31 → J' 72 k = J 72 k
theorem eqL.begins {J : xI_T} : eqL J (m_begins J) := by
  refine ⟨⟨begins_o (by decide) (by decide) (by decide), begins_o (by decide) (by decide) (by decide), ?_⟩, fun k _ => begins_o (by decide) (by decide) (by omega), fun k _ => begins_o (by decide) (by decide) (by omega)⟩
  unfold m_begins
  rw [fil2_ap, if_neg (by decide), up2_s]
theorem eqL.M {J J' : xI_T} (h : eqL J J') (hM : Wmk J) : Wmk J' := hM.mv h.1.1 h.1.2.1 fun j _ h2 => h.2.2 j (by omega)
theorem lay_E {n : Nat} {Ty : Nat → xs_T} {I A : xI_T} {F : xF_T} {J : xI_T} (h : RL n Ty I F J) (hA : ∀ b : Nat, b < ix (J 70 0) → A 7 b = J 72 b ∧ A 8 b = J 71 b) (hf : Fr (fun q _ => q = 7 ∨ q = 8) I A) (hM : Wmk J) : (∀ J' : xI_T, eqL J J' → RC (k_like (up2 (up2 (up2 A 6 7 (A 0 2)) 6 8 (up2 A 6 7 (A 0 2) 0 4)) 6 9 0) 34 6) J' 34) ∧ Fr lset I (k_like (up2 (up2 (up2 A 6 7 (A 0 2)) 6 8 (up2 A 6 7 (A 0 2) 0 4)) 6 9 0) 34 6) := by
  rw [up2_i _ _ (show (0 : Nat) ≠ 6 by decide), hf 0 2 (by decide), hf 0 4 (by decide)]
  refine ⟨fun J' e => like_R (lay_R h hA hf e.1.1 e.1.2.1 e.1.2.2 e.2.1 e.2.2 hM) (e.M hM) (Or.inl (by decide)), fun q k z => ?_⟩
  unfold lset at z
  rw [klike_o (by omega), up2_n _ _ (by omega), up2_n _ _ (by omega), up2_n _ _ (by omega)]
  exact hf q k (by omega)
theorem KS.fr3 {n : Nat} {Ty : Nat → xs_T} {I I' : xI_T} {F : xF_T} {J J' : xI_T} (h : KS n Ty I F J) (h1 : ∀ q k : Nat, 103 ≤ q → I' q k = I q k) (h01 : I' 0 1 = I 0 1) (h03 : I' 0 3 = I 0 3) (hJ : ∀ q k : Nat, gz3 q k → q ≠ 93 → J' q k = J q k) : KS n Ty I' F J' := by
  have g70 : ∀ j : Nat, j < 40 → J' 70 j = J 70 j := fun j hj => hJ 70 j (gz3_70 (Or.inl hj)) (by decide)
  exact ⟨h.1.mv h1 h01 h03 (g70 0 (by decide)) (g70 3 (by decide)) fun k _ => hJ 71 k (gz3_q (Or.inr (Or.inr (Or.inr rfl)))) (by decide), h.2.mv h1 (fun q k a b => hJ q k (gz3_l a b) (by omega)) (g70 7 (by decide)) (g70 8 (by decide))⟩
def bset (q k : Nat) : Prop := lset q k ∨ cset 34 q k
/-- what stands behind a row: market, payments, the latest coming -/
def behF (z : Nat) (I J I' : xI_T) : Prop := RC I' (m_goGo z (m_begins J)) 34 ∧ RP I' (m_goGo z (m_begins J)) ∧ (∀ k : Nat, z = k + 1 → RV I' (m_goGo z (m_begins J)) k) ∧ Fr bset I I'
theorem begins_95 {J : xI_T} {k : Nat} (h : k < 64) : m_begins J 95 k = 0 := by
  unfold m_begins
  rw [fil2_ap, if_pos ⟨rfl, Nat.zero_le _, h⟩]
theorem RL.fr1 {n : Nat} {Ty : Nat → xs_T} {I I' : xI_T} {F : xF_T} {J : xI_T} (h : RL n Ty I F J) (hf : Fr (fun q _ => 14 ≤ q ∧ q ≤ 21) I I') : RL n Ty I' F J := by
  obtain ⟨⟨a1, a2, a3⟩, b, c1, c2, c3, c4⟩ := h
  refine ⟨⟨by rw [hf _ _ (by decide)]; exact a1, by rw [hf _ _ (by decide)]; exact a2, by rw [hf _ _ (by decide)]; exact a3⟩, fun k hk => ?_, by rw [hf _ _ (by decide)]; exact c1, by rw [hf _ _ (by decide)]; exact c2, fun k hk => by rw [hf 9 k (show ¬ (14 ≤ 9 ∧ 9 ≤ 21) by decide)]; exact c3 k hk, fun k hk => by rw [hf 10 k (show ¬ (14 ≤ 10 ∧ 10 ≤ 21) by decide), hf 11 k (show ¬ (14 ≤ 11 ∧ 11 ≤ 21) by decide)]; exact c4 k hk⟩
  obtain ⟨q, q1, q2, q3, q4, q5⟩ := b k hk
  exact ⟨q, q1, q2, q3, by rw [hf _ _ (by omega)]; exact q4, by rw [hf _ _ (by omega)]; exact q5⟩
theorem beh_S {n : Nat} {Ty : Nat → xs_T} {I A B : xI_T} {F : xF_T} {J : xI_T} (hS : KS n Ty I F J) (h1 : Fr (fun q _ => 14 ≤ q ∧ q ≤ 21) I A) (h2 : Fr lset A B) : KS n Ty B F (m_begins J) :=
  hS.fr3 (fun q k hq => by rw [h2 q k (by unfold lset; omega), h1 q k (by omega)]) (by rw [h2 0 1 (by unfold lset; omega), h1 0 1 (by decide)]) (by rw [h2 0 3 (by unfold lset; omega), h1 0 3 (by decide)]) (fun q k h h93 => begins_o h93 h.1.2.2.2.1 (fun z => by have := h.1.2.2.2.2 z.1; omega))
theorem beh_Z {I A B J : xI_T} {z : Nat} (hZ : RW I J z) (h1 : Fr (fun q _ => 14 ≤ q ∧ q ≤ 21) I A) (h2 : Fr lset A B) : RW B (m_begins J) z :=
  hZ.fr ⟨by rw [h2 0 19 (by unfold lset; omega), h1 0 19 (by decide)], fun k => by rw [h2 22 k (by unfold lset; omega), h1 22 k (by omega)]⟩ ⟨begins_o (by decide) (by decide) (by decide), fun k => begins_o (by decide) (by decide) (by omega)⟩
theorem beh_F {I A B C J : xI_T} {z : Nat} (h1 : (∀ a b : Nat, a < 8 → b < 8 → A (14 + a) b = 0) ∧ Fr (fun q _ => 14 ≤ q ∧ q ≤ 21) I A) (h2 : (∀ J2 : xI_T, eqL J J2 → RC B J2 34) ∧ Fr lset A B) (h3 : rowF 34 z B (m_begins J) C) : behF z I J C := by
  obtain ⟨⟨a, b, c⟩, d⟩ := h3
  refine ⟨a, b (fun s t hs ht => ?_), d, fun q k y => ?_⟩
  · rw [begins_95 (by omega), h2.2 _ _ (by unfold lset; omega)]
    exact h1.1 s t hs ht
  · unfold bset cset lset at y
    rw [c q k (by unfold cset; omega), h2.2 q k (by unfold lset; omega), h1.2 q k (by omega)]
