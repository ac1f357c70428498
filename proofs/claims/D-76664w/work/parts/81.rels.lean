/-! WHAT QUERIES STAND ON, in a world that grew; rows that were laid -/
theorem nodeIs.gm {n n' : Nat} {Ty Ty' : Nat → xs_T} {I I' : xI_T} {F F' : xF_T} (h1 : n ≤ n') (h2 : ∀ i : Nat, i < n → Ty' i = Ty i) (h3 : ∀ q k : Nat, 103 ≤ q → q < n → I' q k = I q k) (h4 : ∀ q k : Nat, 103 ≤ q → q < n → F' q k = F q k) : ∀ (d q : Nat) (c : List Int32), nodeIs n Ty I F d q c → nodeIs n' Ty' I' F' d q c
  | 0, _, _, h => h
  | d + 1, q, c, h => by
    obtain ⟨hq, hn, h⟩ := h
    refine ⟨hq, Nat.lt_of_lt_of_le hn h1, ?_⟩
    rw [h2 q hn, h3 q 0 hq hn]
    rcases h with h | h | ⟨a, r, e, b, b2, b3⟩ | ⟨a, r, e, b, b2, b3⟩ | ⟨a, a2, r1, r2, e1, e2, b1, b2, b3, b4, b5⟩
    · exact Or.inl h
    · exact Or.inr (Or.inl h)
    · exact Or.inr (Or.inr (Or.inl ⟨a, r, e, (h4 q 0 hq hn).trans b, nodeIs.gm h1 h2 h3 h4 d r e b2, b3⟩))
    · exact Or.inr (Or.inr (Or.inr (Or.inl ⟨a, r, e, (h4 q 0 hq hn).trans b, nodeIs.gm h1 h2 h3 h4 d r e b2, b3⟩)))
    · exact Or.inr (Or.inr (Or.inr (Or.inr ⟨a, a2, r1, r2, e1, e2, (h4 q 1 hq hn).trans b1, (h4 q 2 hq hn).trans b2, nodeIs.gm h1 h2 h3 h4 d r1 e1 b3, nodeIs.gm h1 h2 h3 h4 d r2 e2 b4, b5⟩)))
theorem linesIs.gm {n n' : Nat} {Ty Ty' : Nat → xs_T} {I I' : xI_T} {F F' : xF_T} {J J' : xI_T} (h1 : n ≤ n') (h2 : ∀ i : Nat, i < n → Ty' i = Ty i) (h3 : ∀ q k : Nat, 103 ≤ q → q < n → I' q k = I q k) (h4 : ∀ q k : Nat, 103 ≤ q → q < n → F' q k = F q k) (h5 : ∀ q k : Nat, 74 ≤ q → q ≤ 77 → J' q k = J q k) : ∀ (m i : Nat) (o : Option Nat), linesIs n Ty I F J m i o → linesIs n' Ty' I' F' J' m i o
  | 0, _, _, h => h
  | m + 1, i, o, h => by
    obtain ⟨q, ho, hq, hn, hT, ht, ⟨r, hr, hg⟩, hx⟩ := h
    refine ⟨q, ho, hq, Nat.lt_of_lt_of_le hn h1, (h2 q hn).trans hT, ?_, ⟨r, (h4 q 1 hq hn).trans hr, ?_⟩, ?_⟩
    · rw [h5 75 i (by decide) (by decide), h5 74 i (by decide) (by decide), cds_mv (fun k => h5 77 k (by decide) (by decide)), h4 q 0 hq hn]
      rcases ht with ht | ⟨a, r, b, c⟩
      · exact Or.inl ht
      · exact Or.inr ⟨a, r, b, c.gm h1 h2 h3 h4 _ _ _⟩
    · rw [h5 75 i (by decide) (by decide), h5 76 i (by decide) (by decide), cds_mv (fun k => h5 77 k (by decide) (by decide))]
      exact hg.gm h1 h2 h3 h4 _ _ _
    · rw [h4 q 2 hq hn]
      exact linesIs.gm h1 h2 h3 h4 h5 m (i + 1) _ hx
theorem KL.gm {n n' : Nat} {Ty Ty' : Nat → xs_T} {I I' : xI_T} {F F' : xF_T} {J J' : xI_T} (h : KL n Ty I F J) (h1 : n ≤ n') (h2 : ∀ i : Nat, i < n → Ty' i = Ty i) (h3 : ∀ q k : Nat, 103 ≤ q → q < n → I' q k = I q k) (h4 : ∀ q k : Nat, 103 ≤ q → q < n → F' q k = F q k) (h0 : F' 0 10 = F 0 10) (h5 : ∀ q k : Nat, 74 ≤ q → q ≤ 77 → J' q k = J q k) (h7 : J' 70 7 = J 70 7) (h8 : J' 70 8 = J 70 8) : KL n' Ty' I' F' J' := by
  unfold KL
  rw [h7, h8, h0]
  rcases h with h | ⟨a, b, c⟩
  · exact Or.inl h
  · exact Or.inr ⟨a, b, c.gm h1 h2 h3 h4 h5 _ _ _⟩
theorem KB.gm {n n' : Nat} {Ty Ty' : Nat → xs_T} {I I' : xI_T} {F F' : xF_T} {J J' : xI_T} (h : KB n Ty I F J) (h1 : n ≤ n') (h2 : ∀ i : Nat, i < n → Ty' i = Ty i) (h3 : ∀ q k : Nat, 103 ≤ q → q < n → 2 ≤ k → I' q k = I q k) (h4 : ∀ k : Nat, k < ix (J 70 0) → F' 1 k = F 1 k) (h01 : I' 0 1 = I 0 1) (h03 : I' 0 3 = I 0 3) (h0 : J' 70 0 = J 70 0) (h70 : J' 70 3 = J 70 3) (h71 : ∀ k : Nat, 8 ≤ k → J' 71 k = J 71 k) : KB n' Ty' I' F' J' := by
  obtain ⟨a, b, c⟩ := h
  refine ⟨by rw [h01, h0]; exact a, by rw [h03, h70]; exact b, fun k hk => ?_⟩
  rw [h0] at hk
  obtain ⟨q, q1, q2, q3, q4, q5, q6⟩ := c k hk
  exact ⟨q, (h4 k hk).trans q1, ⟨q2.1, by omega⟩, (h2 q q2.2).trans q3, by rw [h3 q 2 q2.1 q2.2 (by decide), h71 _ (by omega)]; exact q4, by rw [h3 q 3 q2.1 q2.2 (by decide), h71 _ (by omega)]; exact q5, by rw [h71 _ (by omega)]; exact q6⟩
theorem QS.gm {n n' : Nat} {Ty Ty' : Nat → xs_T} {I I' : xI_T} {F F' : xF_T} {J J' : xI_T} (h : QS n Ty I F J) (h1 : n ≤ n') (h2 : ∀ i : Nat, i < n → Ty' i = Ty i) (hn : 103 ≤ n) (hI : ∀ q k : Nat, pI q k → q < n → I' q k = I q k) (hF : ∀ q k : Nat, (q = 0 ∧ k = 10) ∨ q = 1 ∨ 103 ≤ q → q < n → F' q k = F q k) (hJ : ∀ q k : Nat, pJ q k → J' q k = J q k) : QS n' Ty' I' F' J' := by
  obtain ⟨⟨⟨a1, a2, a3⟩, b, c1, c2, c3, c4⟩, ⟨kb, kl⟩, hM, hW⟩ := h
  have j70 : ∀ k : Nat, k < 12 → J' 70 k = J 70 k := fun k hk => hJ 70 k (by unfold pJ; omega)
  have j71 : ∀ k : Nat, J' 71 k = J 71 k := fun k => hJ 71 k (by unfold pJ; omega)
  have j72 : ∀ k : Nat, k < 31 → J' 72 k = J 72 k := fun k hk => hJ 72 k (by unfold pJ; omega)
  have i0 : ∀ k : Nat, 1 ≤ k → k ≤ 4 → I' 0 k = I 0 k := fun k h1 h2 => hI 0 k (by unfold pI; omega) (by omega)
  have ih : ∀ q k : Nat, 103 ≤ q → q < n → I' q k = I q k := fun q k h1 h2 => hI q k (by unfold pI; omega) h2
  have fh : ∀ q k : Nat, 103 ≤ q → q < n → F' q k = F q k := fun q k h1 h2 => hF q k (by omega) h2
  have f1 : ∀ k : Nat, F' 1 k = F 1 k := fun k => hF 1 k (by omega) (by omega)
  have hM' : Wmk J' := hM.mv (j70 0 (by decide)) (j70 2 (by decide)) fun j _ h2 => j72 j (by omega)
  obtain ⟨nb, hnb, enb⟩ := vp_in_of hM.1 (by decide)
  obtain ⟨z, hz, ez⟩ := vp_in_of hM.2.2.2.1 (by decide)
  refine ⟨⟨⟨?_, ?_, ?_⟩, fun k hk => ?_, ?_, ?_, fun k hk => ?_, fun k hk => ?_⟩, ⟨kb.gm h1 h2 (fun q k a b _ => ih q k a b) (fun k _ => f1 k) (i0 1 (by decide) (by decide)) (i0 3 (by decide) (by decide)) (j70 0 (by decide)) (j70 3 (by decide)) fun k _ => j71 k, kl.gm h1 h2 ih fh (hF 0 10 (by omega) (by omega)) (fun q k h1 h2 => hJ q k (by unfold pJ; omega)) (j70 7 (by decide)) (j70 8 (by decide))⟩, hM', hW.mv (j70 8 (by decide)) fun q j h1 h2 => hJ q j (by unfold pJ; omega)⟩
  · rw [i0 1 (by decide) (by decide), j70 0 (by decide)]; exact a1
  · rw [i0 2 (by decide) (by decide), j70 2 (by decide)]; exact a2
  · rw [i0 4 (by decide) (by decide), j72 8 (by decide)]; exact a3
  · rw [j70 0 (by decide)] at hk
    obtain ⟨q, q1, q2, q3, q4, q5⟩ := b k hk
    have hk8 : k < 9 := by rw [enb, ix_n (by omega)] at hk; omega
    exact ⟨q, (f1 k).trans q1, ⟨q2.1, by omega⟩, (h2 q q2.2).trans q3, by rw [ih q 0 q2.1 q2.2, j72 k (by omega)]; exact q4, by rw [ih q 1 q2.1 q2.2, j71]; exact q5⟩
  · rw [hI 6 5 (by unfold pI; omega) (by omega), j72 18 (by decide)]; exact c1
  · rw [hI 6 6 (by unfold pI; omega) (by omega), j72 9 (by decide)]; exact c2
  · rw [j70 0 (by decide)] at hk
    have hk8 : k < 9 := by rw [enb, ix_n (by omega)] at hk; omega
    rw [hI 9 k (by unfold pI; omega) (by omega), j72 _ (by omega)]
    exact c3 k hk
  · rw [j72 18 (by decide)] at hk
    have hk5 : k < 5 := by rw [ez, ix_n (by omega)] at hk; omega
    rw [hI 10 k (by unfold pI; omega) (by omega), hI 11 k (by unfold pI; omega) (by omega), j72 _ (by omega), j72 _ (by omega), j70 0 (by decide)]
    exact c4 k hk
theorem QS.grow {n n' : Nat} {Ty Ty' : Nat → xs_T} {I : xI_T} {F : xF_T} {J : xI_T} (h : QS n Ty I F J) (hn : 103 ≤ n) (h1 : n ≤ n') (h2 : ∀ i : Nat, i < n → Ty' i = Ty i) : QS n' Ty' I F J := h.gm h1 h2 hn (fun _ _ _ _ => rfl) (fun _ _ _ _ => rfl) (fun _ _ _ => rfl)
/-- what queries may write but the best order -/
def q2set (q k : Nat) : Prop := qset q k ∧ q ≠ 23
theorem Fr.q {I I' : xI_T} (h : Fr q2set I I') : Fr qset I I' := h.sub fun _ _ z => z.1
theorem reads_pj {J : xI_T} {M : xL_T} {s : Int32} : ∀ q k : Nat, pJ q k → m_reads J M s q k = J q k := fun q k z => reads_o (by unfold pJ at z; omega) (by unfold pJ at z; omega)
abbrev rset (q k : Nat) : Prop := q = 22 ∨ (q = 0 ∧ k = 19)
theorem rset_q {q k : Nat} (h : rset q k) : q2set q k := by
  unfold q2set qset
  unfold rset at h
  omega
/-- what stands behind a row that was laid -/
theorem lay_Q {n n' : Nat} {Ty Ty' : Nat → xs_T} {I I' : xI_T} {F : xF_T} {J : xI_T} {M : xL_T} {s : Int32} (h : QS n Ty I F J) (hC : WC n Ty F) (h1 : n ≤ n') (h2 : ∀ i : Nat, i < n → Ty' i = Ty i) (hf : Fr rset I I') : QS n' Ty' I' F (m_reads J M s) :=
  (h.grow hC.1 h1 h2).fr (hf.sub fun _ _ z => (rset_q z).1) reads_pj
theorem noB_3 {J : xI_T} {s : Int32} : m_noB J s = -11 ∨ m_noB J s = 0 ∨ m_noB J s = -12 := by
  unfold m_noB
  by_cases h1 : J 90 (ix s) = -1
  · rw [if_pos h1]; exact Or.inl rfl
  · rw [if_neg h1]
    by_cases h2 : J 90 (ix s) = 0
    · rw [if_pos h2]; exact Or.inr (Or.inl rfl)
    · rw [if_neg h2]; exact Or.inr (Or.inr rfl)
theorem noB_z {J : xI_T} {s v : Int32} (e : v = m_noB J s) (h : ¬ v < 0) : v = 0 := by
  rw [e] at h ⊢
  rcases noB_3 (J := J) (s := s) with z | z | z
  · rw [z] at h; exact absurd (by decide) h
  · exact z
  · rw [z] at h; exact absurd (by decide) h
theorem RW.lt {I J : xI_T} {z : Nat} (h : RW I J z) {k : Nat} (hk : k < z) : ∃ w : Nat, w < ix (J 70 0) ∧ I 22 k = nI w := by
  obtain ⟨a, w, b, c⟩ := h.2.2 k hk
  exact ⟨w, b, a.trans c⟩
theorem RW.row {I J : xI_T} {z : Nat} (h : RW I J z) (h45 : J 70 45 = nI z) (hb : ix (J 70 0) < 9) : Wrow J := by
  refine ⟨by rw [h45]; exact vp_in_nI (by have := h.2.1; omega) (by decide), fun k hk hk2 => ?_⟩
  rw [h45] at hk
  obtain ⟨-, w, hw, e⟩ := h.2.2 k (by have h9 := h.2.1; rw [i_lt, nI_toInt (by omega), nI_toInt (by omega)] at hk; omega)
  rw [e]
  exact vp_in_nI (by omega) (by decide)
theorem QS.wall {n : Nat} {Ty : Nat → xs_T} {I : xI_T} {F : xF_T} {J : xI_T} {z : Nat} (h : QS n Ty I F J) (hR : RW I J z) (h45 : J 70 45 = nI z) : Wall J := by
  obtain ⟨nb, hnb, enb, enx, -⟩ := h.nb
  exact ⟨h.2.2.1, h.2.2.2, hR.row h45 (by omega)⟩
theorem pursB_pj {J : xI_T} {o : Int32} (h : Wall J) : ∀ q k : Nat, pJ q k → (m_pursB J o).2 q k = J q k := fun q k z => by
  unfold pJ at z
  by_cases h72 : q = 72
  · subst h72
    exact pursB_72 (by omega) h
  · exact pursB_o ⟨⟨by omega, by omega, by omega, by omega, fun y => by omega⟩, by omega, by omega, by omega⟩ (by omega)
/-- a market of one buyer's purse, by its number -/
theorem isB_s {s : Int32} (h : ¬ inR s 0 5 = 0) : ∃ t : Nat, t < 6 ∧ s = nI t := by
  obtain ⟨t, ht, e⟩ := vp_in_of (inR_s h) (by decide)
  exact ⟨t, ht, e⟩
theorem beh_1 {I J I' : xI_T} {z : Nat} (h : behF z I J I') (h45 : J 70 45 = nI z) (hz : z ≤ 20) : RC I' (m_behind J) 34 ∧ RP I' (m_behind J) := by
  rw [behind_z h45 (by omega)]
  exact ⟨h.1, h.2.1⟩
theorem behind_70 {J : xI_T} {j : Nat} (h : j < 40 ∨ 43 < j) : m_behind J 70 j = J 70 j := behind_o (gz3_70 h) (by decide)
theorem isB_k {I J : xI_T} (h : I 0 1 = J 70 0) (o : Int32) : k_isB I o = m_isB J o := by
  unfold k_isB m_isB
  rw [h]
theorem two_k {I J : xI_T} (h : I 0 1 = J 70 0) (o : Int32) : k_two I o = m_pair J o := by
  unfold k_two m_pair
  rw [isB_k h, isB_k h]
theorem in03 {w : Int32} (h : ¬ inR w 0 3 = 0) (h0 : ¬ w = 0) (h1 : ¬ w = 1) (h2 : ¬ w = 2) : w = 3 := by
  obtain ⟨t, ht, e⟩ := vp_in_of (xinR (N := 4) h (by decide)) (by decide)
  rw [e] at h0 h1 h2 ⊢
  have q0 : t ≠ 0 := fun z => h0 (by rw [z]; rfl)
  have q1 : t ≠ 1 := fun z => h1 (by rw [z]; rfl)
  have q2 : t ≠ 2 := fun z => h2 (by rw [z]; rfl)
  rw [show t = 3 by omega]
  rfl
theorem market_B {J : xI_T} {M : xL_T} {s o w : Int32} (h1 : ¬ inR s 0 5 = 0) (h2 : ¬ inR w 0 3 = 0) (h3 : (w = 3 ∧ ¬ m_isB J o = 0) ∨ (¬ w = 3 ∧ o = 0)) : m_market J M s o w = m_marketB J M s o w := by
  unfold m_market m_marketB
  rw [if_neg h1, if_neg h2, if_neg (fun z => by rcases h3 with q | q; exact q.2 z.2; exact q.1 z.1), if_neg (fun z => by rcases h3 with q | q; exact z.1 q.1; exact z.2 q.2)]
/-- the k-th coming of a row stands where later ones come too -/
theorem goGo_9 {J : xI_T} {q k : Nat} (hq : q = 97 ∨ q = 98 ∨ q = 99) : ∀ d : Nat, m_goGo (k + 1 + d) J q k = m_goGo (k + 1) J q k
  | 0 => rfl
  | d + 1 => by
    rw [show k + 1 + (d + 1) = (k + 1 + d) + 1 by omega, goGo_s]
    rw [← goGo_9 hq d]
    rw [up2_n _ _ (by omega), up2_n _ _ (by omega), up2_n _ _ (by omega)]
    exact goes1_o ⟨by omega, by omega, by omega, by omega, fun z => by omega⟩
theorem cut_R {I J : xI_T} {z k : Nat} (h : RW I J z) (hk : k < z) : RW (up2 I 0 19 (nI (k + 1))) J (k + 1) := by
  refine ⟨up2_s _ _ _ _, by have := h.2.1; omega, fun j hj => ?_⟩
  rw [up2_i _ _ (by decide)]
  exact h.2.2 j (by omega)
/-- a coming put in, taken out, changed with the next -/
def kpsh (I : xI_T) (k z : Nat) : xI_T := fun q j => if q = 22 ∧ k < j ∧ j ≤ z then I 22 (j - 1) else I q j
def kputs (I : xI_T) (p : Nat) (w : Int32) (z : Nat) : xI_T := up2 (up2 (kpsh I p z) 22 p w) 0 19 (nI (z + 1))
def ktakes (I : xI_T) (p z : Nat) : xI_T := cpy2 (up2 I 0 19 (nI z)) 22 p 22 (p + 1) (z - p)
def kswap (I : xI_T) (k : Nat) : xI_T := up2 (up2 I 22 k (I 22 (k + 1))) 22 (k + 1) (I 22 k)
theorem kpsh_z {I : xI_T} {z : Nat} : kpsh I z z = I := by
  funext q j
  unfold kpsh
  rw [if_neg (by omega)]
theorem kpsh_up {I : xI_T} {k z : Nat} (h : 1 ≤ k) (hz : k ≤ z) : up2 (kpsh I k z) 22 k (kpsh I k z 22 (k - 1)) = kpsh I (k - 1) z := by
  have e : kpsh I k z 22 (k - 1) = I 22 (k - 1) := by
    unfold kpsh
    rw [if_neg (by omega)]
  rw [e]
  funext q j
  rw [up2_ap]
  unfold kpsh
  by_cases h1 : q = 22 ∧ j = k
  · rw [if_pos h1, if_pos ⟨h1.1, by omega, by omega⟩, h1.2]
  · rw [if_neg h1]
    by_cases h2 : q = 22 ∧ k < j ∧ j ≤ z
    · rw [if_pos h2, if_pos ⟨h2.1, by omega, h2.2.2⟩]
    · rw [if_neg h2, if_neg (by omega)]
theorem kpsh_o {I : xI_T} {k z q j : Nat} (h : q ≠ 22) : kpsh I k z q j = I q j := by
  unfold kpsh
  rw [if_neg (fun y => h y.1)]
theorem kputs_o {I : xI_T} {p z q j : Nat} {w : Int32} (h : ¬ rset q j) : kputs I p w z q j = I q j := by
  unfold rset at h
  unfold kputs
  rw [up2_n _ _ (by omega), up2_i _ _ (by omega), kpsh_o (by omega)]
theorem ktakes_o {I : xI_T} {p z q j : Nat} (h : ¬ rset q j) : ktakes I p z q j = I q j := by
  unfold rset at h
  unfold ktakes
  rw [cpy2_ap, if_neg (by omega), up2_n _ _ (by omega)]
theorem kswap_o {I : xI_T} {k q j : Nat} (h : ¬ rset q j) : kswap I k q j = I q j := by
  unfold rset at h
  unfold kswap
  rw [up2_i _ _ (by omega), up2_i _ _ (by omega)]
theorem puts_RW {I J : xI_T} {p w z : Nat} (h : RW I J z) (h45 : J 70 45 = nI z) (hp : p ≤ z) (hz : z < 20) (hw : w < ix (J 70 0)) : RW (kputs I p (nI w) z) (m_puts J p (nI w)) (z + 1) := by
  refine ⟨up2_s _ _ _ _, by omega, fun k hk => ?_⟩
  have e0 : m_puts J p (nI w) 70 0 = J 70 0 := puts_i (by decide) (by omega)
  have ez : ix (J 70 45) = z := by rw [h45]; exact ix_n (by omega)
  rw [e0]
  unfold kputs m_puts
  rw [ez, up2_i _ _ (show (22 : Nat) ≠ 0 by decide), up2_i _ _ (show (96 : Nat) ≠ 70 by decide)]
  by_cases h1 : k = p
  · subst h1
    rw [up2_s, up2_s]
    exact ⟨rfl, w, hw, rfl⟩
  · rw [up2_k _ _ h1, up2_k _ _ h1]
    unfold kpsh pshf
    by_cases h2 : p < k
    · rw [if_pos ⟨rfl, h2, by omega⟩, if_pos ⟨rfl, h2, by omega⟩]
      exact h.2.2 (k - 1) (by omega)
    · rw [if_neg (by omega), if_neg (by omega)]
      exact h.2.2 k (by omega)
theorem takes_RW {I J : xI_T} {p z : Nat} (h : RW I J (z + 1)) (h45 : J 70 45 = nI (z + 1)) (hp : p ≤ z) : RW (ktakes I p z) (m_takes J p) z := by
  have hz := h.2.1
  have e0 : m_takes J p 70 0 = J 70 0 := takes_i (by decide) (by omega)
  refine ⟨by unfold ktakes; rw [cpy2_ap, if_neg (by omega), up2_s], by omega, fun k hk => ?_⟩
  rw [e0]
  unfold ktakes m_takes
  rw [h45, nI_pred, ix_n (show z < 2147483648 by omega), cpy2_ap, cpy2_ap]
  by_cases h1 : p ≤ k
  · rw [if_pos ⟨rfl, h1, by omega⟩, if_pos ⟨rfl, h1, by omega⟩, up2_i _ _ (by decide), up2_i _ _ (by decide)]
    exact h.2.2 _ (by omega)
  · rw [if_neg (by omega), if_neg (by omega), up2_i _ _ (by decide), up2_i _ _ (by decide)]
    exact h.2.2 k (by omega)
theorem swap_RW {I J : xI_T} {k z : Nat} (h : RW I J z) (hk : k + 1 < z) : RW (kswap I k) (m_swaps J k) z := by
  refine ⟨by rw [kswap, up2_i _ _ (by decide), up2_i _ _ (by decide)]; exact h.1, h.2.1, fun j hj => ?_⟩
  have e0 : m_swaps J k 70 0 = J 70 0 := swaps_i (by decide)
  rw [e0]
  unfold kswap m_swaps
  by_cases h1 : j = k + 1
  · subst h1
    rw [up2_s, up2_s]
    exact h.2.2 k (by omega)
  · rw [up2_k _ _ h1, up2_k _ _ h1]
    by_cases h2 : j = k
    · subst h2
      rw [up2_s, up2_s]
      exact h.2.2 (j + 1) hk
    · rw [up2_k _ _ h2, up2_k _ _ h2]
      exact h.2.2 j hj
theorem bset_2 {q k : Nat} (h : bset q k) : q2set q k := by
  unfold q2set qset
  refine ⟨Or.inl h, ?_⟩
  unfold bset lset cset at h
  omega
theorem puts_pj {J : xI_T} {p : Nat} {w : Int32} : ∀ q k : Nat, pJ q k → m_puts J p w q k = J q k := fun q k z => puts_i (by unfold pJ at z; omega) (by unfold pJ at z; omega)
theorem takes_pj {J : xI_T} {p : Nat} : ∀ q k : Nat, pJ q k → m_takes J p q k = J q k := fun q k z => takes_i (by unfold pJ at z; omega) (by unfold pJ at z; omega)
theorem swaps_pj {J : xI_T} {p : Nat} : ∀ q k : Nat, pJ q k → m_swaps J p q k = J q k := fun q k z => swaps_i (by unfold pJ at z; omega)
theorem pursB_45 {J : xI_T} {o : Int32} : (m_pursB J o).2 70 45 = J 70 45 := pursB_o (gz3_70 (Or.inr (by decide))) (by decide)
theorem pursB_70 {J : xI_T} {o : Int32} : (m_pursB J o).2 70 0 = J 70 0 := pursB_o (gz3_70 (Or.inl (by decide))) (by decide)
theorem pursB_RW {A B J : xI_T} {z : Nat} {o : Int32} (h : RW A J z) (hf : Fr bset A B) : RW B (m_pursB J o).2 z :=
  h.fr ⟨hf 0 19 (by unfold bset lset cset; omega), fun k => hf 22 k (by unfold bset lset cset; omega)⟩ ⟨pursB_70, fun k => pursB_o (gz3_q (Or.inl rfl)) (by decide)⟩
theorem pair_s {J : xI_T} {o : Int32} (hb : vp_in (J 70 0) 9) (h : ¬ m_pair J o = 0) : ∃ a b : Nat, a < 8 ∧ b < 8 ∧ ix (8 * (o / 10) + irm o 10) = 8 * a + b ∧ o / 10 = nI a ∧ irm o 10 = nI b ∧ a < ix (J 70 0) ∧ b < ix (J 70 0) ∧ a ≠ b := by
  unfold m_pair at h
  by_cases h1 : o < 0
  · rw [if_pos h1] at h
    exact absurd rfl h
  · rw [if_neg h1] at h
    by_cases h2 : m_isB J (o / 10) = 0
    · rw [if_pos h2] at h
      exact absurd rfl h
    · rw [if_neg h2] at h
      by_cases h3 : m_isB J (irm o 10) = 0
      · rw [if_pos h3] at h
        exact absurd rfl h
      · rw [if_neg h3] at h
        obtain ⟨a, ha, ha8, ea⟩ := isB_y hb h2
        obtain ⟨b, hb2, hb8, eb⟩ := isB_y hb h3
        refine ⟨a, b, ha8, hb8, ?_, ea, eb, ha, hb2, fun z => ?_⟩
        · rw [ea, eb, show (8 : Int32) * nI a = nI (8 * a) from pk_mul 8 a, nI_add]
          exact ix_n (by omega)
        · rw [ea, eb, z, if_pos rfl] at h
          exact absurd rfl h
