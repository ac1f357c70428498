/-! WHAT QUERIES STAND ON, on both sides; orders -/
def pI (q k : Nat) : Prop := (q = 0 ∧ 1 ≤ k ∧ k ≤ 4) ∨ (q = 6 ∧ (k = 5 ∨ k = 6)) ∨ q = 9 ∨ q = 10 ∨ q = 11 ∨ 103 ≤ q
def pJ (q k : Nat) : Prop := (q = 70 ∧ k < 12) ∨ q = 71 ∨ (q = 72 ∧ k < 31) ∨ (74 ≤ q ∧ q ≤ 77)
def QS (n : Nat) (Ty : Nat → xs_T) (I : xI_T) (F : xF_T) (J : xI_T) : Prop := RL n Ty I F J ∧ KS n Ty I F J ∧ Wmk J ∧ Wlaw J
theorem QS.mv {n : Nat} {Ty : Nat → xs_T} {I I' : xI_T} {F : xF_T} {J J' : xI_T} (h : QS n Ty I F J) (hI : ∀ q k : Nat, pI q k → I' q k = I q k) (hJ : ∀ q k : Nat, pJ q k → J' q k = J q k) : QS n Ty I' F J' := by
  obtain ⟨⟨⟨a1, a2, a3⟩, b, c1, c2, c3, c4⟩, ⟨kb, kl⟩, hM, hW⟩ := h
  have j70 : ∀ k : Nat, k < 12 → J' 70 k = J 70 k := fun k hk => hJ 70 k (by unfold pJ; omega)
  have j71 : ∀ k : Nat, J' 71 k = J 71 k := fun k => hJ 71 k (by unfold pJ; omega)
  have j72 : ∀ k : Nat, k < 31 → J' 72 k = J 72 k := fun k hk => hJ 72 k (by unfold pJ; omega)
  have i0 : ∀ k : Nat, 1 ≤ k → k ≤ 4 → I' 0 k = I 0 k := fun k h1 h2 => hI 0 k (by unfold pI; omega)
  have ih : ∀ q k : Nat, 103 ≤ q → I' q k = I q k := fun q k h1 => hI q k (by unfold pI; omega)
  have hM' : Wmk J' := hM.mv (j70 0 (by decide)) (j70 2 (by decide)) fun j _ h2 => j72 j (by omega)
  obtain ⟨nb, hnb, enb⟩ := vp_in_of hM.1 (by decide)
  obtain ⟨z, hz, ez⟩ := vp_in_of hM.2.2.2.1 (by decide)
  refine ⟨⟨⟨?_, ?_, ?_⟩, fun k hk => ?_, ?_, ?_, fun k hk => ?_, fun k hk => ?_⟩, ⟨kb.mv ih (i0 1 (by decide) (by decide)) (i0 3 (by decide) (by decide)) (j70 0 (by decide)) (j70 3 (by decide)) fun k _ => j71 k, kl.mv ih (fun q k h1 h2 => hJ q k (by unfold pJ; omega)) (j70 7 (by decide)) (j70 8 (by decide))⟩, hM', hW.mv (j70 8 (by decide)) fun q j h1 h2 => hJ q j (by unfold pJ; omega)⟩
  · rw [i0 1 (by decide) (by decide), j70 0 (by decide)]; exact a1
  · rw [i0 2 (by decide) (by decide), j70 2 (by decide)]; exact a2
  · rw [i0 4 (by decide) (by decide), j72 8 (by decide)]; exact a3
  · rw [j70 0 (by decide)] at hk
    obtain ⟨q, q1, q2, q3, q4, q5⟩ := b k hk
    have hk8 : k < 9 := by rw [enb, ix_n (by omega)] at hk; omega
    exact ⟨q, q1, q2, q3, by rw [ih q 0 q2.1, j72 k (by omega)]; exact q4, by rw [ih q 1 q2.1, j71]; exact q5⟩
  · rw [hI 6 5 (by unfold pI; omega), j72 18 (by decide)]; exact c1
  · rw [hI 6 6 (by unfold pI; omega), j72 9 (by decide)]; exact c2
  · rw [j70 0 (by decide)] at hk
    have hk8 : k < 9 := by rw [enb, ix_n (by omega)] at hk; omega
    rw [hI 9 k (by unfold pI; omega), j72 _ (by omega)]
    exact c3 k hk
  · rw [j72 18 (by decide)] at hk
    have hk5 : k < 5 := by rw [ez, ix_n (by omega)] at hk; omega
    rw [hI 10 k (by unfold pI; omega), hI 11 k (by unfold pI; omega), j72 _ (by omega), j72 _ (by omega), j70 0 (by decide)]
    exact c4 k hk
theorem QS.nb {n : Nat} {Ty : Nat → xs_T} {I : xI_T} {F : xF_T} {J : xI_T} (h : QS n Ty I F J) : ∃ nb : Nat, nb < 9 ∧ J 70 0 = nI nb ∧ ix (J 70 0) = nb ∧ I 0 1 = nI nb := by
  obtain ⟨nb, hnb, enb⟩ := vp_in_of h.2.2.1.1 (by decide)
  exact ⟨nb, hnb, enb, by rw [enb]; exact ix_n (by omega), h.1.1.1.trans enb⟩
/-- what queries may write, of the component's -/
def qset (q k : Nat) : Prop := bset q k ∨ (q = 0 ∧ (k = 15 ∨ k = 16 ∨ k = 17 ∨ k = 19 ∨ k = 21 ∨ k = 23 ∨ k = 24 ∨ k = 25)) ∨ (22 ≤ q ∧ q ≤ 24) ∨ (34 ≤ q ∧ q ≤ 69)
theorem QS.fr {n : Nat} {Ty : Nat → xs_T} {I I' : xI_T} {F : xF_T} {J J' : xI_T} (h : QS n Ty I F J) (hf : Fr qset I I') (hJ : ∀ q k : Nat, pJ q k → J' q k = J q k) : QS n Ty I' F J' :=
  h.mv (fun q k z => hf q k (by unfold pI at z; unfold qset bset lset cset; omega)) hJ
theorem ordK.pj {i : Nat} {I J : xI_T} (h : ordK i I J) : ∀ q k : Nat, pJ q k → J q k = I q k := fun q k z => by
  unfold pJ at z
  by_cases h72 : q = 72
  · subst h72
    exact h.2.2 k (by omega)
  · refine h.1 q k ⟨⟨by omega, by omega, by omega, by omega, fun y => by omega⟩, by omega, by omega, by omega⟩ (by omega) (by omega) (by omega) (by omega) (fun y => by omega)
def RO (I J : xI_T) (i : Nat) : Prop := I 0 19 = nI i ∧ (∀ k : Nat, k < i → I 22 k = J 100 k ∧ ∃ w : Nat, w < ix (J 70 0) ∧ J 100 k = nI w) ∧ I 0 21 = J 70 52 ∧ ∀ k : Nat, k < 5 → I 23 k = J 101 k
theorem has_00 : ∀ t : Fin 256, ∀ b : Fin 8, (k_has (nI t.1) (nI b.1) = 0 ↔ (nI t.1 >>> (nI b.1 &&& 31)) &&& 1 = 0) := by decide +kernel
theorem has_0 {t b : Nat} (ht : t < 256) (hb : b < 8) : k_has (nI t) (nI b) = 0 ↔ (nI t >>> (nI b &&& 31)) &&& 1 = 0 := has_00 ⟨t, ht⟩ ⟨b, hb⟩
theorem RO.row {I J : xI_T} {i : Nat} (h : RO I J i) (hi : i ≤ 5) : RW I (ordR i J) i := by
  refine ⟨h.1, by omega, fun k hk => ?_⟩
  have e : ordR i J 96 k = J 100 k := by
    unfold ordR
    rw [cpy2_ap, if_pos ⟨rfl, by omega, by omega⟩, up2_i _ _ (by decide), show 0 + (k - 0) = k by omega]
  rw [e, ordR_o (by decide) (by decide)]
  exact h.2.1 k hk
theorem ordR_pj {J : xI_T} {i : Nat} : ∀ q k : Nat, pJ q k → ordR i J q k = J q k := fun q k z => ordR_o (by unfold pJ at z; omega) (by unfold pJ at z; omega)
theorem begins_45 {J : xI_T} : m_begins J 70 45 = J 70 45 := begins_o (by decide) (by decide) (by decide)
theorem behind_z {J : xI_T} {z : Nat} (h : J 70 45 = nI z) (hz : z < 1000) : m_behind J = m_goGo z (m_begins J) := by
  unfold m_behind m_goes
  rw [begins_45, h, ix_n (by omega)]
/-- a purse behind the row, on both sides -/
theorem beh_p {I J I' : xI_T} {z y : Nat} (h : behF z I J I') (h45 : J 70 45 = nI z) (hz : z ≤ 20) (hy : y < ix (J 70 0)) (hb : ix (J 70 0) < 9) : I' 35 y = (m_pursB J (nI y)).1 := by
  show I' 35 y = m_behind J 72 (ix (nI y))
  rw [behind_z h45 (by omega), ix_n (by omega)]
  exact (h.1.1 y (by rw [goGo_o (gz3_70 (Or.inl (by decide))), begins_o (by decide) (by decide) (by decide)]; exact hy)).1
theorem leaf_1 {I J I' : xI_T} {i : Nat} (hR : RO I J i) (h : Fr bset I I') (o : Int32) (hi : i ≤ 5) : RO I' (m_pursB (ordR i J) o).2 i := by
  have hP : ∀ q j : Nat, gz3 q j → q ≠ 93 → q ≠ 96 → ¬ (q = 70 ∧ j = 45) → (m_pursB (ordR i J) o).2 q j = J q j := fun q j a b c d => by rw [pursB_o a b, ordR_o c d]
  have g1 : ∀ q j : Nat, q = 100 ∨ q = 101 → gz3 q j := fun q j z => ⟨gz_q ⟨by omega, by omega, by omega, by omega, by omega⟩, by omega, by omega, by omega⟩
  obtain ⟨a, b, c, d⟩ := hR
  refine ⟨by rw [h 0 19 (by unfold bset lset cset; omega)]; exact a, fun k hk => ?_, ?_, fun k hk => ?_⟩
  · rw [h 22 k (by unfold bset lset cset; omega), hP 100 k (g1 _ _ (Or.inl rfl)) (by decide) (by decide) (by omega), hP 70 0 (gz3_70 (Or.inl (by decide))) (by decide) (by decide) (by decide)]
    exact b k hk
  · rw [h 0 21 (by unfold bset lset cset; omega), hP 70 52 (gz3_70 (Or.inr (by decide))) (by decide) (by decide) (by decide)]
    exact c
  · rw [h 23 k (by unfold bset lset cset; omega), hP 101 k (g1 _ _ (Or.inr rfl)) (by decide) (by decide) (by omega)]
    exact d k hk
/-- the best order noted -/
theorem leaf_2 {A P : xI_T} {i : Nat} {v : Int32} (hR : RO A P i) (hi : i ≤ 5) : RO (cpy2 (up2 A 0 21 v) 23 0 22 0 i) (cpy2 (up2 P 70 52 v) 101 0 100 0 i) i := by
  obtain ⟨a, b, c, d⟩ := hR
  refine ⟨?_, fun k hk => ?_, ?_, fun k hk => ?_⟩
  · rw [cpy2_ap, if_neg (by omega), up2_k _ _ (by decide)]; exact a
  · rw [cpy2_ap, if_neg (by omega), up2_i _ _ (by decide), cpy2_ap, if_neg (by omega), up2_i _ _ (by decide), cpy2_ap, if_neg (by omega), up2_k _ _ (by decide)]
    exact b k hk
  · rw [cpy2_ap, if_neg (by omega), up2_s, cpy2_ap, if_neg (by omega), up2_s]
  · rw [cpy2_ap, cpy2_ap]
    by_cases h : k < i
    · rw [if_pos ⟨rfl, by omega, by omega⟩, if_pos ⟨rfl, by omega, by omega⟩, up2_i _ _ (by decide), up2_i _ _ (by decide), show 0 + (k - 0) = k by omega]
      exact (b k h).1
    · rw [if_neg (by omega), if_neg (by omega), up2_i _ _ (by decide), up2_i _ _ (by decide)]
      exact d k hk
theorem node_1 {A K : xI_T} {i k : Nat} (hR : RO A K i) (hk : k < ix (K 70 0)) : RO (up2 (up2 A 22 i (nI k)) 0 19 (nI (i + 1))) (up2 K 100 i (nI k)) (i + 1) := by
  obtain ⟨a, b, c, d⟩ := hR
  refine ⟨up2_s _ _ _ _, fun j hj => ?_, ?_, fun j hj => ?_⟩
  · rw [up2_i (up2 A 22 i (nI k)) _ (show (22 : Nat) ≠ 0 by decide), up2_i K _ (show (70 : Nat) ≠ 100 by decide)]
    by_cases h : j = i
    · subst h
      rw [up2_s, up2_s]
      exact ⟨rfl, k, hk, rfl⟩
    · rw [up2_k A _ h, up2_k K _ h]
      exact b j (by omega)
  · rw [up2_k _ _ (by decide), up2_i _ _ (by decide), up2_i _ _ (by decide)]; exact c
  · rw [up2_i _ _ (by decide), up2_i _ _ (by decide), up2_i _ _ (by decide)]; exact d j hj
theorem node_2 {A K : xI_T} {i : Nat} (hR : RO A K (i + 1)) : RO (up2 A 0 19 (nI i)) K i := by
  obtain ⟨a, b, c, d⟩ := hR
  refine ⟨up2_s _ _ _ _, fun j hj => ?_, ?_, fun j hj => ?_⟩
  · rw [up2_i _ _ (by decide)]
    exact b j (by omega)
  · rw [up2_k _ _ (by decide)]; exact c
  · rw [up2_i _ _ (by decide)]; exact d j hj
def oset (q k : Nat) : Prop := bset q k ∨ (q = 0 ∧ (k = 19 ∨ k = 21)) ∨ q = 22 ∨ q = 23
theorem Fr.oq {I I' : xI_T} (h : Fr oset I I') : Fr qset I I' := h.sub fun q k z => by
  unfold oset at z; unfold qset; rcases z with z | z | z | z
  · exact Or.inl z
  · exact Or.inr (Or.inl (by omega))
  · exact Or.inr (Or.inr (Or.inl (by omega)))
  · exact Or.inr (Or.inr (Or.inl (by omega)))
def OrdC (e : Nat) : Prop := ∀ (l : Launch) (G : xG_T) (n : Nat) (Ty : Nat → xs_T) (F : xF_T) (_ : WC n Ty F) (I : xI_T) (L : xL_T) (J : xI_T) (i t y : Nat) (_ : i + pcn t ≤ 5) (_ : pcn t < e) (_ : t < 256) (_ : QS n Ty I F J) (_ : RO I J i) (_ : y < ix (J 70 0)), CR l (264 + e) yX0_orderOn cX0_orderOn 5 none G n Ty F [.ref (xb G + 0), .int (nI t), .int (nI y)] I L (aV (fun I2 => RO I2 (m_ord (nI y) e i (nI t) J) i ∧ Fr oset I I2))
theorem ordR_45 {J : xI_T} {i : Nat} : ordR i J 70 45 = nI i := by
  unfold ordR
  rw [cpy2_ap, if_neg (by omega), up2_s]
