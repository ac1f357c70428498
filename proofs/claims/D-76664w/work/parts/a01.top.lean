/-! BOTH SIDES BETWEEN TWO CALLS -/
def dynI (n : Nat) (Ty : Nat → xs_T) (I I' : xI_T) : Prop := ∀ q k c : Nat, 103 ≤ q → q < n → Ty q = some (.inl c) → c ≠ 4 → I' q k = I q k
def dynF (n : Nat) (F F' : xF_T) : Prop := ∀ q k : Nat, 103 ≤ q → q < n → F' q k = F q k
def dynA (n : Nat) (Ty : Nat → xs_T) (I I' : xI_T) (L L' : xL_T) : Prop := ∀ (a k : Nat) (t : Nat × Nat), 103 ≤ a → a < n → Ty a = some (.inr t) → I' a k = I a k ∧ L' a k = L a k
def dynB (n : Nat) (Ty : Nat → xs_T) (I I' : xI_T) : Prop := ∀ q k : Nat, 103 ≤ q → q < n → Ty q = some (.inl 4) → I' q k = I q k
def grw (n n' : Nat) (Ty Ty' : Nat → xs_T) : Prop := n ≤ n' ∧ ∀ i : Nat, i < n → Ty' i = Ty i
theorem grw.rf {n : Nat} {Ty : Nat → xs_T} : grw n n Ty Ty := ⟨Nat.le_refl _, fun _ _ => rfl⟩
theorem dynI.of {n : Nat} {Ty : Nat → xs_T} {I I' : xI_T} (h : ∀ q k : Nat, 103 ≤ q → q < n → I' q k = I q k) : dynI n Ty I I' := fun q k _ h1 h2 _ _ => h q k h1 h2
theorem dynB.of {n : Nat} {Ty : Nat → xs_T} {I I' : xI_T} (h : ∀ q k : Nat, 103 ≤ q → q < n → I' q k = I q k) : dynB n Ty I I' := fun q k h1 h2 _ => h q k h1 h2
theorem dynA.of {n : Nat} {Ty : Nat → xs_T} {I I' : xI_T} {L L' : xL_T} (h : ∀ q k : Nat, 103 ≤ q → q < n → I' q k = I q k) (hL : ∀ q k : Nat, 103 ≤ q → q < n → L' q k = L q k) : dynA n Ty I I' L L' := fun a k _ h1 h2 _ => ⟨h a k h1 h2, hL a k h1 h2⟩
theorem dynF.rf {n : Nat} {F : xF_T} : dynF n F F := fun _ _ _ _ => rfl
theorem nodeIs.w {n n' : Nat} {Ty Ty' : Nat → xs_T} {I I' : xI_T} {F F' : xF_T} (h1 : grw n n' Ty Ty') (h3 : dynI n Ty I I') (h4 : dynF n F F') : ∀ (d q : Nat) (c : List Int32), nodeIs n Ty I F d q c → nodeIs n' Ty' I' F' d q c
  | 0, _, _, h => h
  | d + 1, q, c, h => by
    obtain ⟨hq, hn, h⟩ := h
    refine ⟨hq, Nat.lt_of_lt_of_le hn h1.1, ?_⟩
    rw [h1.2 q hn]
    rcases h with ⟨t, v, a, b, e⟩ | ⟨t, a, e⟩ | ⟨a, r, e, b, b2, b3⟩ | ⟨a, r, e, b, b2, b3⟩ | ⟨a, a2, r1, r2, e1, e2, b1, b2, b3, b4, b5⟩
    · exact Or.inl ⟨t, v, a, (h3 q 0 _ hq hn t (by decide)).trans b, e⟩
    · refine Or.inr (Or.inl ⟨t, ?_⟩)
      rw [h3 q 0 _ hq hn t (by decide)]
      exact ⟨a, e⟩
    · exact Or.inr (Or.inr (Or.inl ⟨a, r, e, (h4 q 0 hq hn).trans b, nodeIs.w h1 h3 h4 d r e b2, b3⟩))
    · exact Or.inr (Or.inr (Or.inr (Or.inl ⟨a, r, e, (h4 q 0 hq hn).trans b, nodeIs.w h1 h3 h4 d r e b2, b3⟩)))
    · refine Or.inr (Or.inr (Or.inr (Or.inr ⟨a, ?_⟩)))
      rw [h3 q 0 _ hq hn a (by decide)]
      exact ⟨a2, r1, r2, e1, e2, (h4 q 1 hq hn).trans b1, (h4 q 2 hq hn).trans b2, nodeIs.w h1 h3 h4 d r1 e1 b3, nodeIs.w h1 h3 h4 d r2 e2 b4, b5⟩
theorem linesIs.w {n n' : Nat} {Ty Ty' : Nat → xs_T} {I I' : xI_T} {F F' : xF_T} {J J' : xI_T} (h1 : grw n n' Ty Ty') (h3 : dynI n Ty I I') (h4 : dynF n F F') (h5 : ∀ q k : Nat, 74 ≤ q → q ≤ 77 → J' q k = J q k) : ∀ (m i : Nat) (o : Option Nat), linesIs n Ty I F J m i o → linesIs n' Ty' I' F' J' m i o
  | 0, _, _, h => h
  | m + 1, i, o, h => by
    obtain ⟨q, ho, hq, hn, hT, ht, ⟨r, hr, hg⟩, hx⟩ := h
    refine ⟨q, ho, hq, Nat.lt_of_lt_of_le hn h1.1, (h1.2 q hn).trans hT, ?_, ⟨r, (h4 q 1 hq hn).trans hr, ?_⟩, ?_⟩
    · rw [h5 75 i (by decide) (by decide), h5 74 i (by decide) (by decide), cds_mv (fun k => h5 77 k (by decide) (by decide)), h4 q 0 hq hn]
      rcases ht with ht | ⟨a, r, b, c⟩
      · exact Or.inl ht
      · exact Or.inr ⟨a, r, b, c.w h1 h3 h4 _ _ _⟩
    · rw [h5 75 i (by decide) (by decide), h5 76 i (by decide) (by decide), cds_mv (fun k => h5 77 k (by decide) (by decide))]
      exact hg.w h1 h3 h4 _ _ _
    · rw [h4 q 2 hq hn]
      exact linesIs.w h1 h3 h4 h5 m (i + 1) _ hx
theorem KL.w {n n' : Nat} {Ty Ty' : Nat → xs_T} {I I' : xI_T} {F F' : xF_T} {J J' : xI_T} (h : KL n Ty I F J) (h1 : grw n n' Ty Ty') (h3 : dynI n Ty I I') (h4 : dynF n F F') (h0 : F' 0 10 = F 0 10) (h5 : ∀ q k : Nat, (74 ≤ q ∧ q ≤ 77) ∨ (q = 70 ∧ (k = 7 ∨ k = 8)) → J' q k = J q k) : KL n' Ty' I' F' J' := by
  unfold KL
  rw [h5 70 7 (by omega), h5 70 8 (by omega), h0]
  rcases h with h | ⟨a, b, c⟩
  · exact Or.inl h
  · exact Or.inr ⟨a, b, c.w h1 h3 h4 (fun q k a b => h5 q k (by omega)) _ _ _⟩
theorem FC_k {i k j : Nat} (h : FC i k = some j) : i < 70 ∧ i ≠ 1 ∧ i ≠ 2 ∧ i ≠ 32 ∧ i ≠ 33 ∧ ¬ (i = 0 ∧ k = 10) := by
  refine ⟨?_, ?_, ?_, ?_, ?_, ?_⟩
  · by_cases q : i < 70
    · exact q
    · exfalso
      have e : FC i k = none := by
        unfold FC
        split <;> first | rfl | omega
      rw [e] at h
      cases h
  · rintro rfl; cases h
  · rintro rfl; cases h
  · rintro rfl; cases h
  · rintro rfl; cases h
  · rintro ⟨rfl, rfl⟩; cases h
def fixF (F F' : xF_T) : Prop := ∀ q k : Nat, q < 70 → q ≠ 1 → q ≠ 2 → q ≠ 32 → q ≠ 33 → ¬ (q = 0 ∧ k = 10) → F' q k = F q k
theorem WC.w {n n' : Nat} {Ty Ty' : Nat → xs_T} {F F' : xF_T} (h : WC n Ty F) (h1 : grw n n' Ty Ty') (hF : fixF F F') : WC n' Ty' F' := by
  obtain ⟨a, b, c⟩ := h.grow h1.1 h1.2
  refine ⟨a, b, fun i k j hj => ?_⟩
  obtain ⟨z1, z2, z3, z4, z5, z6⟩ := FC_k hj
  exact (hF i k z1 z2 z3 z4 z5 z6).trans (c i k j hj)
/-- the pieces -/
def NUM (I J : xI_T) : Prop := I 0 1 = J 70 0 ∧ I 0 2 = J 70 2 ∧ I 0 4 = J 72 8 ∧ I 0 3 = J 70 3 ∧ (J 70 3 = 0 ∨ J 70 3 = 1)
def NOW (I J : xI_T) : Prop := I 6 5 = J 72 18 ∧ I 6 6 = J 72 9 ∧ (∀ k : Nat, k < ix (J 70 0) → I 9 k = J 72 (10 + k)) ∧ ∀ k : Nat, k < ix (J 72 18) → I 10 k = J 72 (19 + k) ∧ I 11 k = J 72 (25 + k) ∧ ∃ w : Nat, w < ix (J 70 0) ∧ J 72 (19 + k) = nI w
def BUY (n : Nat) (Ty : Nat → xs_T) (I : xI_T) (F : xF_T) (J : xI_T) : Prop := ∀ b : Nat, b < ix (J 70 0) → ∃ q : Nat, F 1 b = some q ∧ (103 ≤ q ∧ q < n) ∧ Ty q = some (.inl 4) ∧ I q 0 = J 72 b ∧ I q 1 = J 71 b ∧ I q 2 = J 71 (8 + b) ∧ I q 3 = J 71 (16 + b) ∧ (J 71 (16 + b) = 0 ∨ J 71 (16 + b) = 1)
def WW (J : xI_T) : Prop := Wmk J ∧ Wlaw J ∧ vp_in (J 72 8) 100
def TBu (F : xF_T) (J : xI_T) : Prop := ∀ a b : Nat, a < ix (J 70 0) → b < ix (J 70 0) → F 1 a = F 1 b → a = b
def fitW (w v : Int32) : Prop := (w = 3 ∨ w = 5 → v = 0 ∨ v = 1) ∧ (w = 4 → ∃ t : Nat, 1 ≤ t ∧ t ≤ 5 ∧ v = nI t) ∧ (w = 6 → vp_in v 100)
def chOk (J : xI_T) (k : Nat) : Prop := ¬ m_isOf J (J 87 (4 * k)) (J 87 (4 * k + 1)) = 0 ∧ fitW (J 87 (4 * k + 1)) (J 87 (4 * k + 2)) ∧ fitW (J 87 (4 * k + 1)) (J 87 (4 * k + 3))
def TCh (n : Nat) (Ty : Nat → xs_T) (I : xI_T) (F : xF_T) (J : xI_T) : Prop := ∃ d u : Nat, (d + u ≤ 40 ∧ J 70 29 = nI d ∧ J 70 28 = nI (d + u) ∧ I 0 6 = nI d ∧ I 0 7 = nI u) ∧ (∀ k : Nat, k < d + u → ∃ q : Nat, F 2 k = some q ∧ (103 ≤ q ∧ q < n) ∧ Ty q = some (.inl 5) ∧ I q 0 = J 87 (4 * k + 1) ∧ I q 1 = J 87 (4 * k) ∧ I q 2 = J 87 (4 * k + 2) ∧ I q 3 = J 87 (4 * k + 3) ∧ chOk J k) ∧ ∀ k : Nat, k < 40 → okw (J 87 (4 * k + 1)) (J 87 (4 * k))
def TTa (I J : xI_T) : Prop := ∃ t : Nat, t ≤ 120 ∧ J 70 5 = nI t ∧ I 0 9 = nI t ∧ ∀ k : Nat, k < t → ∃ c : Nat, c ≤ 255 ∧ J 73 k = nI c ∧ I 3 k = (nI c).toInt8.toInt32
def TLe (I J : xI_T) : Prop := I 0 26 = J 84 0 ∧ I 0 27 = J 84 1 ∧ I 0 28 = J 84 2 ∧ I 0 29 = J 84 3 ∧ I 0 30 = J 84 4
def imK (I J : xI_T) (kb : Nat) : Prop := (kb ≤ ix (J 70 0) ∧ J 70 25 = nI kb ∧ I 0 33 = nI kb) ∧ (∀ b : Nat, b < kb → I 26 b = J 85 b ∧ I 28 b = J 85 (10 + b)) ∧ (I 25 5 = J 85 18 ∧ I 25 6 = J 85 9 ∧ I 25 8 = J 85 8) ∧ (∀ k : Nat, k < ix (J 85 18) → I 29 k = J 85 (19 + k) ∧ I 30 k = J 85 (25 + k) ∧ ∃ w : Nat, w < kb ∧ J 85 (19 + k) = nI w) ∧ (vp_in (J 85 18) 6 ∧ (∀ k : Nat, 19 ≤ k → k < 25 → vp_in (J 85 k) 8) ∧ vp_in (J 85 8) 100) ∧ I 0 34 = J 86 0 ∧ I 0 35 = J 86 1 ∧ I 0 36 = J 86 2 ∧ I 0 37 = J 86 3 ∧ I 0 38 = J 86 4
def TIm (I J : xI_T) : Prop := I 0 31 = J 70 24 ∧ (J 70 24 = 0 ∨ (J 70 24 = 1 ∧ ∃ kb : Nat, imK I J kb))
def TBo (n : Nat) (Ty : Nat → xs_T) (I : xI_T) (F : xF_T) (J : xI_T) : Prop := ∃ m : Nat, (m ≤ 50 ∧ J 70 31 = nI m ∧ I 0 42 = nI m) ∧ (∀ b : Nat, b < m → ∃ q c : Nat, F 32 b = some q ∧ (103 ≤ q ∧ q < n) ∧ c ≤ 7 ∧ Ty q = some (.inl (15 + c)) ∧ J 88 b = nI c ∧ I q 0 = nI b ∧ F q 1 = some 0) ∧ ∀ k : Nat, k < 50 → vp_in (J 88 k) 8
def TTr (I J : xI_T) : Prop := ∃ t : Nat, t < 1000 ∧ J 70 33 = nI t ∧ I 0 39 = nI t ∧ ∀ k : Nat, k < t → k < 24 → I 31 k = J 89 k
def rowA (n : Nat) (Ty : Nat → xs_T) (F : xF_T) (s a : Nat) : Prop := ∃ q k : Nat, F 33 s = some q ∧ q < n ∧ k < 5 ∧ Ty q = some (.inl (24 + k)) ∧ F q 0 = some a
def TSh (n : Nat) (Ty : Nat → xs_T) (I : xI_T) (L : xL_T) (F : xF_T) (J : xI_T) (M : xL_T) : Prop := (∀ s : Nat, s < 6 → shK n Ty I L F J M s) ∧ Wsh J ∧ (∀ s t a : Nat, s < 6 → t < 6 → s ≠ t → rowA n Ty F s a → ¬ rowA n Ty F t a) ∧ ∀ s b : Nat, s < 6 → b < 50 → J 90 s = nI (10 + b) → b < ix (J 70 31)
/-- buyers that are not there yet -/
def FRE (I J : xI_T) : Prop := ∀ b : Nat, ix (J 70 0) ≤ b → b < 8 → I 9 b = J 72 (10 + b) ∧ J 71 (16 + b) = 0
theorem FRE.w {I I' J J' : xI_T} (h : FRE I J) (hI : ∀ k : Nat, I' 9 k = I 9 k) (hJ : ∀ q k : Nat, (q = 70 ∧ k = 0) ∨ (q = 72 ∧ 10 ≤ k ∧ k < 18) ∨ q = 71 → J' q k = J q k) : FRE I' J' := fun b h1 h2 => by
  rw [hJ 70 0 (by omega)] at h1
  rw [hI, hJ 72 _ (by omega), hJ 71 _ (by omega)]
  exact h b h1 h2
def TOP (n : Nat) (Ty : Nat → xs_T) (I : xI_T) (L : xL_T) (F : xF_T) (J : xI_T) (M : xL_T) : Prop := WC n Ty F ∧ NUM I J ∧ NOW I J ∧ BUY n Ty I F J ∧ KL n Ty I F J ∧ WW J ∧ RB I J ∧ TBu F J ∧ TCh n Ty I F J ∧ TTa I J ∧ TLe I J ∧ TIm I J ∧ TBo n Ty I F J ∧ TTr I J ∧ TSh n Ty I L F J M ∧ FRE I J
theorem BUY.nb {J : xI_T} (h : WW J) : ∃ nb : Nat, nb < 9 ∧ J 70 0 = nI nb ∧ ix (J 70 0) = nb := by
  obtain ⟨nb, hnb, enb⟩ := vp_in_of h.1.1 (by decide)
  exact ⟨nb, hnb, enb, by rw [enb]; exact ix_n (by omega)⟩
theorem TOP.Q {n : Nat} {Ty : Nat → xs_T} {I : xI_T} {L : xL_T} {F : xF_T} {J : xI_T} {M : xL_T} (h : TOP n Ty I L F J M) : QS n Ty I F J := by
  obtain ⟨-, ⟨a1, a2, a3, a4, a5⟩, ⟨b1, b2, b3, b4⟩, c, d, ⟨e1, e2, -⟩, -⟩ := h
  refine ⟨⟨⟨a1, a2, a3⟩, fun k hk => ?_, b1, b2, b3, b4⟩, ⟨⟨a1, ⟨a4, a5⟩, fun k hk => ?_⟩, d⟩, e1, e2⟩
  · obtain ⟨q, h1, h2, h3, h4, h5, -⟩ := c k hk
    exact ⟨q, h1, h2, h3, h4, h5⟩
  · obtain ⟨q, h1, h2, h3, -, -, h6⟩ := c k hk
    exact ⟨q, h1, h2, h3, h6⟩
theorem TOP.S {n : Nat} {Ty : Nat → xs_T} {I : xI_T} {L : xL_T} {F : xF_T} {J : xI_T} {M : xL_T} (h : TOP n Ty I L F J M) : ∀ s : Nat, s < 6 → shK n Ty I L F J M s := h.2.2.2.2.2.2.2.2.2.2.2.2.2.2.1.1
/-- pieces that stand where their cells do -/
theorem NUM.w {I I' J J' : xI_T} (h : NUM I J) (hI : ∀ k : Nat, 1 ≤ k → k ≤ 4 → I' 0 k = I 0 k) (hJ : ∀ q k : Nat, (q = 70 ∧ (k = 0 ∨ k = 2 ∨ k = 3)) ∨ (q = 72 ∧ k = 8) → J' q k = J q k) : NUM I' J' := by
  unfold NUM
  rw [hI 1 (by decide) (by decide), hI 2 (by decide) (by decide), hI 3 (by decide) (by decide), hI 4 (by decide) (by decide), hJ 70 0 (by omega), hJ 70 2 (by omega), hJ 70 3 (by omega), hJ 72 8 (by omega)]
  exact h
theorem NOW.w {I I' J J' : xI_T} (h : NOW I J) (hW : WW J) (hI : ∀ q k : Nat, (q = 6 ∧ (k = 5 ∨ k = 6)) ∨ q = 9 ∨ q = 10 ∨ q = 11 → I' q k = I q k) (hJ : ∀ q k : Nat, (q = 70 ∧ k = 0) ∨ (q = 72 ∧ 9 ≤ k ∧ k < 31) → J' q k = J q k) : NOW I' J' := by
  obtain ⟨nb, hnb, enb, enx⟩ := BUY.nb hW
  have h5 := ix_7 hW.1.2.2.2.1
  obtain ⟨z, hz, ez⟩ := vp_in_of hW.1.2.2.2.1 (by decide)
  have ezx : ix (J 72 18) = z := by rw [ez]; exact ix_n (by omega)
  obtain ⟨a, b, c, d⟩ := h
  refine ⟨?_, ?_, fun k hk => ?_, fun k hk => ?_⟩
  · rw [hI 6 5 (by omega), hJ 72 18 (by omega)]; exact a
  · rw [hI 6 6 (by omega), hJ 72 9 (by omega)]; exact b
  · rw [hJ 70 0 (by omega)] at hk
    rw [hI 9 k (by omega), hJ 72 _ (by omega)]; exact c k hk
  · rw [hJ 72 18 (by omega)] at hk
    rw [hI 10 k (by omega), hI 11 k (by omega), hJ 72 _ (by omega), hJ 72 _ (by omega), hJ 70 0 (by omega)]; exact d k hk
theorem BUY.w {n n' : Nat} {Ty Ty' : Nat → xs_T} {I I' : xI_T} {F F' : xF_T} {J J' : xI_T} (h : BUY n Ty I F J) (hW : WW J) (h1 : grw n n' Ty Ty') (hB : dynB n Ty I I') (hF : ∀ k : Nat, k < ix (J 70 0) → F' 1 k = F 1 k) (hJ : ∀ q k : Nat, (q = 70 ∧ k = 0) ∨ q = 71 ∨ (q = 72 ∧ k < 8) → J' q k = J q k) : BUY n' Ty' I' F' J' := fun b hb => by
  obtain ⟨nb, hnb, enb, enx⟩ := BUY.nb hW
  rw [hJ 70 0 (by omega)] at hb
  obtain ⟨q, a1, a2, a3, a4, a5, a6, a7, a8⟩ := h b hb
  have hq : ∀ k : Nat, I' q k = I q k := fun k => hB q k a2.1 a2.2 a3
  refine ⟨q, (hF b hb).trans a1, ⟨a2.1, Nat.lt_of_lt_of_le a2.2 h1.1⟩, (h1.2 q a2.2).trans a3, ?_, ?_, ?_, ?_, ?_⟩
  · rw [hq, hJ 72 b (by omega)]; exact a4
  · rw [hq, hJ 71 b (by omega)]; exact a5
  · rw [hq, hJ 71 _ (by omega)]; exact a6
  · rw [hq, hJ 71 _ (by omega)]; exact a7
  · rw [hJ 71 _ (by omega)]; exact a8
theorem WW.w {J J' : xI_T} (h : WW J) (hJ : ∀ q k : Nat, (q = 70 ∧ (k = 0 ∨ k = 2 ∨ k = 8)) ∨ (q = 72 ∧ (k = 8 ∨ (18 ≤ k ∧ k < 25))) ∨ (74 ≤ q ∧ q ≤ 77) → J' q k = J q k) : WW J' :=
  ⟨h.1.mv (hJ _ _ (by omega)) (hJ _ _ (by omega)) fun j _ _ => hJ _ _ (by omega), h.2.1.mv (hJ _ _ (by omega)) fun q j _ _ => hJ _ _ (by omega), by rw [hJ 72 8 (by omega)]; exact h.2.2⟩
theorem RB.w {I I' J J' : xI_T} (h : RB I J) (hI : ∀ k : Nat, I' 23 k = I 23 k) (hJ : ∀ k : Nat, J' 101 k = J 101 k) : RB I' J' := fun k hk => by
  rw [hI, hJ]
  exact h k hk
theorem TBu.w {F F' : xF_T} {J J' : xI_T} (h : TBu F J) (hF : ∀ k : Nat, k < ix (J 70 0) → F' 1 k = F 1 k) (hJ : J' 70 0 = J 70 0) : TBu F' J' := fun a b ha hb e => by
  rw [hJ] at ha hb
  rw [hF a ha, hF b hb] at e
  exact h a b ha hb e
theorem isOf_w {J J' : xI_T} (h : J' 70 0 = J 70 0) (b w : Int32) : m_isOf J' b w = m_isOf J b w := by
  unfold m_isOf m_isB
  rw [h]
theorem TCh.w {n n' : Nat} {Ty Ty' : Nat → xs_T} {I I' : xI_T} {F F' : xF_T} {J J' : xI_T} (h : TCh n Ty I F J) (h1 : grw n n' Ty Ty') (hd : dynI n Ty I I') (hI : I' 0 6 = I 0 6 ∧ I' 0 7 = I 0 7) (hF : ∀ k : Nat, F' 2 k = F 2 k) (hJ : ∀ q k : Nat, (q = 70 ∧ (k = 0 ∨ k = 28 ∨ k = 29)) ∨ q = 87 → J' q k = J q k) : TCh n' Ty' I' F' J' := by
  obtain ⟨d, u, ⟨a1, a2, a3, a4, a5⟩, b, c⟩ := h
  have h87 : ∀ k : Nat, J' 87 k = J 87 k := fun k => hJ 87 k (by omega)
  refine ⟨d, u, ⟨a1, by rw [hJ 70 29 (by omega)]; exact a2, by rw [hJ 70 28 (by omega)]; exact a3, by rw [hI.1]; exact a4, by rw [hI.2]; exact a5⟩, fun k hk => ?_, fun k hk => by rw [h87, h87]; exact c k hk⟩
  obtain ⟨q, b1, b2, b3, b4, b5, b6, b7, b8⟩ := b k hk
  have hq : ∀ k : Nat, I' q k = I q k := fun k => hd q k 5 b2.1 b2.2 b3 (by decide)
  refine ⟨q, (hF k).trans b1, ⟨b2.1, Nat.lt_of_lt_of_le b2.2 h1.1⟩, (h1.2 q b2.2).trans b3, ?_, ?_, ?_, ?_, ?_⟩
  · rw [hq, h87]; exact b4
  · rw [hq, h87]; exact b5
  · rw [hq, h87]; exact b6
  · rw [hq, h87]; exact b7
  · unfold chOk
    rw [h87, h87, h87, h87, isOf_w (hJ 70 0 (by omega))]
    exact b8
theorem TTa.w {I I' J J' : xI_T} (h : TTa I J) (hI : ∀ q k : Nat, (q = 0 ∧ k = 9) ∨ q = 3 → I' q k = I q k) (hJ : ∀ q k : Nat, (q = 70 ∧ k = 5) ∨ q = 73 → J' q k = J q k) : TTa I' J' := by
  obtain ⟨t, a, b, c, d⟩ := h
  refine ⟨t, a, (hJ 70 5 (by omega)).trans b, (hI 0 9 (by omega)).trans c, fun k hk => ?_⟩
  rw [hI 3 k (by omega), hJ 73 k (by omega)]
  exact d k hk
theorem TLe.w {I I' J J' : xI_T} (h : TLe I J) (hI : ∀ k : Nat, 26 ≤ k → k ≤ 30 → I' 0 k = I 0 k) (hJ : ∀ k : Nat, J' 84 k = J 84 k) : TLe I' J' := by
  unfold TLe
  rw [hI 26 (by decide) (by decide), hI 27 (by decide) (by decide), hI 28 (by decide) (by decide), hI 29 (by decide) (by decide), hI 30 (by decide) (by decide), hJ, hJ, hJ, hJ, hJ]
  exact h
theorem imK.w {I I' J J' : xI_T} {kb : Nat} (h : imK I J kb) (hI : ∀ q k : Nat, (q = 0 ∧ 31 ≤ k ∧ k ≤ 38) ∨ (25 ≤ q ∧ q ≤ 30) → I' q k = I q k) (hJ : ∀ q k : Nat, (q = 70 ∧ (k = 24 ∨ k = 25)) ∨ q = 85 ∨ q = 86 → J' q k = J q k) (hb : ix (J 70 0) ≤ ix (J' 70 0)) : imK I' J' kb := by
  obtain ⟨⟨a1, a2, a3⟩, b, ⟨c1, c2, c3⟩, d, ⟨e1, e2, e3⟩, f1, f2, f3, f4, f5⟩ := h
  have h85 : ∀ k : Nat, J' 85 k = J 85 k := fun k => hJ 85 k (by omega)
  have h86 : ∀ k : Nat, J' 86 k = J 86 k := fun k => hJ 86 k (by omega)
  have i0 : ∀ k : Nat, 31 ≤ k → k ≤ 38 → I' 0 k = I 0 k := fun k y1 y2 => hI 0 k (by omega)
  refine ⟨⟨by omega, (hJ 70 25 (by omega)).trans a2, (i0 33 (by decide) (by decide)).trans a3⟩, fun k hk => ?_, ⟨?_, ?_, ?_⟩, fun k hk => ?_, ⟨?_, fun k y1 y2 => ?_, ?_⟩, ?_, ?_, ?_, ?_, ?_⟩
  · rw [hI 26 k (by omega), hI 28 k (by omega), h85, h85]; exact b k hk
  · rw [hI 25 5 (by omega), h85]; exact c1
  · rw [hI 25 6 (by omega), h85]; exact c2
  · rw [hI 25 8 (by omega), h85]; exact c3
  · rw [h85] at hk
    rw [hI 29 k (by omega), hI 30 k (by omega), h85, h85]; exact d k hk
  · rw [h85]; exact e1
  · rw [h85]; exact e2 k y1 y2
  · rw [h85]; exact e3
  · rw [i0 34 (by decide) (by decide), h86]; exact f1
  · rw [i0 35 (by decide) (by decide), h86]; exact f2
  · rw [i0 36 (by decide) (by decide), h86]; exact f3
  · rw [i0 37 (by decide) (by decide), h86]; exact f4
  · rw [i0 38 (by decide) (by decide), h86]; exact f5
theorem TIm.w {I I' J J' : xI_T} (h : TIm I J) (hI : ∀ q k : Nat, (q = 0 ∧ 31 ≤ k ∧ k ≤ 38) ∨ (25 ≤ q ∧ q ≤ 30) → I' q k = I q k) (hJ : ∀ q k : Nat, (q = 70 ∧ (k = 24 ∨ k = 25)) ∨ q = 85 ∨ q = 86 → J' q k = J q k) (hb : ix (J 70 0) ≤ ix (J' 70 0)) : TIm I' J' := by
  obtain ⟨a, b⟩ := h
  refine ⟨by rw [hI 0 31 (by omega), hJ 70 24 (by omega)]; exact a, ?_⟩
  rw [hJ 70 24 (by omega)]
  rcases b with b | ⟨b, kb, c⟩
  · exact Or.inl b
  · exact Or.inr ⟨b, kb, c.w hI hJ hb⟩
theorem TBo.w {n n' : Nat} {Ty Ty' : Nat → xs_T} {I I' : xI_T} {F F' : xF_T} {J J' : xI_T} (h : TBo n Ty I F J) (h1 : grw n n' Ty Ty') (hd : dynI n Ty I I') (hf : dynF n F F') (hI : I' 0 42 = I 0 42) (hF : ∀ k : Nat, F' 32 k = F 32 k) (hJ : ∀ q k : Nat, (q = 70 ∧ k = 31) ∨ q = 88 → J' q k = J q k) : TBo n' Ty' I' F' J' := by
  obtain ⟨m, ⟨a1, a2, a3⟩, b, c⟩ := h
  have h88 : ∀ k : Nat, J' 88 k = J 88 k := fun k => hJ 88 k (by omega)
  refine ⟨m, ⟨a1, (hJ 70 31 (by omega)).trans a2, hI.trans a3⟩, fun k hk => ?_, fun k hk => by rw [h88]; exact c k hk⟩
  obtain ⟨q, c9, b1, b2, b3, b4, b5, b6, b7⟩ := b k hk
  exact ⟨q, c9, (hF k).trans b1, ⟨b2.1, Nat.lt_of_lt_of_le b2.2 h1.1⟩, b3, (h1.2 q b2.2).trans b4, (h88 k).trans b5, (hd q 0 _ b2.1 b2.2 b4 (by omega)).trans b6, (hf q 1 b2.1 b2.2).trans b7⟩
theorem TTr.w {I I' J J' : xI_T} (h : TTr I J) (hI : ∀ q k : Nat, (q = 0 ∧ k = 39) ∨ q = 31 → I' q k = I q k) (hJ : ∀ q k : Nat, (q = 70 ∧ k = 33) ∨ q = 89 → J' q k = J q k) : TTr I' J' := by
  obtain ⟨t, a, b, c, d⟩ := h
  refine ⟨t, a, (hJ 70 33 (by omega)).trans b, (hI 0 39 (by omega)).trans c, fun k hk h2 => ?_⟩
  rw [hI 31 k (by omega), hJ 89 k (by omega)]
  exact d k hk h2
theorem shK.w {n n' : Nat} {Ty Ty' : Nat → xs_T} {I I' : xI_T} {L L' : xL_T} {F F' : xF_T} {J J' : xI_T} {M M' : xL_T} {s : Nat} (h : shK n Ty I L F J M s) (h1 : grw n n' Ty Ty') (hA : dynA n Ty I I' L L') (hd : dynF n F F') (hF : F' 33 s = F 33 s ∧ ∀ k q : Nat, F 32 k = some q → F' 32 k = some q) (hJ : J' 90 s = J 90 s ∧ J' 91 s = J 91 s) (hM : ∀ k : Nat, M' 92 k = M 92 k) : shK n' Ty' I' L' F' J' M' s := by
  rcases h with h | ⟨q, t, a, z, ⟨a1, a2, a3, a4, a5⟩, a6, ⟨b1, b2, b3, b4, b5, b6⟩, b7⟩ | ⟨q, b, c, ⟨a1, a2, a3, a4, a5, a6⟩, a7, a8⟩
  · exact Or.inl ⟨hF.1.trans h.1, hJ.1.trans h.2⟩
  · refine Or.inr (Or.inl ⟨q, t, a, z, ⟨hF.1.trans a1, a2, Nat.lt_of_lt_of_le a3 h1.1, a4, (h1.2 q a3).trans a5⟩, hJ.1.trans a6, ⟨(hd q 0 a2 a3).trans b1, b2, Nat.lt_of_lt_of_le b3 h1.1, b4, hJ.2.trans b5, (h1.2 a b3).trans b6⟩, fun i hi => ?_⟩)
    rw [(hA a i _ b2 b3 b6).1, (hA a i _ b2 b3 b6).2, hM]
    exact b7 i hi
  · exact Or.inr (Or.inr ⟨q, b, c, ⟨hF.1.trans a1, hF.2 b q a2, a3, Nat.lt_of_lt_of_le a4 h1.1, a5, (h1.2 q a4).trans a6⟩, a7, hJ.1.trans a8⟩)
theorem rowA.w {n n' : Nat} {Ty Ty' : Nat → xs_T} {F F' : xF_T} {s a : Nat} {L : xL_T} {I J : xI_T} {M : xL_T} (hs : shK n Ty I L F J M s) (h1 : grw n n' Ty Ty') (hd : dynF n F F') (hF : F' 33 s = F 33 s) (h : rowA n' Ty' F' s a) : rowA n Ty F s a := by
  obtain ⟨q, k, a1, a2, a3, a4, a5⟩ := h
  rw [hF] at a1
  have hq : 103 ≤ q ∧ q < n := by
    rcases hs with h | ⟨q2, t, a, z, ⟨c1, c2, c3, c4, c5⟩, -⟩ | ⟨q2, b, c, ⟨c1, c2, c3, c4, c5, c6⟩, -⟩
    · rw [h.1] at a1; cases a1
    · rw [c1] at a1
      cases a1
      exact ⟨c2, c3⟩
    · rw [c1] at a1
      cases a1
      exact ⟨c3, c4⟩
  exact ⟨q, k, a1, hq.2, a3, (h1.2 q hq.2).symm.trans a4, (hd q 0 hq.1 hq.2).symm.trans a5⟩
theorem TSh.w {n n' : Nat} {Ty Ty' : Nat → xs_T} {I I' : xI_T} {L L' : xL_T} {F F' : xF_T} {J J' : xI_T} {M M' : xL_T} (h : TSh n Ty I L F J M) (h1 : grw n n' Ty Ty') (hA : dynA n Ty I I' L L') (hd : dynF n F F') (hF : (∀ s : Nat, F' 33 s = F 33 s) ∧ ∀ k q : Nat, F 32 k = some q → F' 32 k = some q) (hJ : ∀ q k : Nat, q = 90 ∨ q = 91 → J' q k = J q k) (hM : ∀ k : Nat, M' 92 k = M 92 k) (hm : ix (J 70 31) ≤ ix (J' 70 31)) : TSh n' Ty' I' L' F' J' M' := by
  obtain ⟨a, b, c, d⟩ := h
  refine ⟨fun s hs => (a s hs).w h1 hA hd ⟨hF.1 s, hF.2⟩ ⟨hJ 90 s (by omega), hJ 91 s (by omega)⟩ hM, fun s hs => by rw [hJ 91 _ (by omega)]; exact b s hs, fun s t x hs ht hst r1 r2 => c s t x hs ht hst (rowA.w (a s hs) h1 hd (hF.1 s) r1) (rowA.w (a t ht) h1 hd (hF.1 t) r2), fun s b9 hs hb e => ?_⟩
  rw [hJ 90 s (by omega)] at e
  have := d s b9 hs hb e
  omega
/-- the reference's cells that queries leave -/
def frJ (J J' : xI_T) : Prop := ∀ q k : Nat, (q = 70 ∧ k < 40) ∨ q = 71 ∨ (q = 72 ∧ k < 31) ∨ (73 ≤ q ∧ q ≤ 77) ∨ (84 ≤ q ∧ q ≤ 91) → J' q k = J q k
/-- behind a query -/
theorem TOP.q {n n' : Nat} {Ty Ty' : Nat → xs_T} {I I' : xI_T} {L : xL_T} {F : xF_T} {J J' : xI_T} {M : xL_T} (h : TOP n Ty I L F J M) (h1 : grw n n' Ty Ty') (hI : Fr qset I I') (hJ : frJ J J') (hB : RB I' J') : TOP n' Ty' I' L F J' M := by
  obtain ⟨a1, a2, a3, a4, a5, a6, a7, a8, a9, b1, b2, b3, b4, b5, b6, b7⟩ := h
  have i : ∀ q k : Nat, ¬ ((q = 0 ∧ 15 ≤ k ∧ k ≤ 25) ∨ q = 5 ∨ (q = 6 ∧ 7 ≤ k ∧ k ≤ 9) ∨ q = 7 ∨ q = 8 ∨ (14 ≤ q ∧ q ≤ 24) ∨ (34 ≤ q ∧ q ≤ 69)) → I' q k = I q k := fun q k z => hI q k (by unfold qset bset lset cset; omega)
  have id : ∀ q k : Nat, 103 ≤ q → q < n → I' q k = I q k := fun q k z _ => i q k (by omega)
  exact ⟨a1.w h1 (fun _ _ _ _ _ _ _ _ => rfl), a2.w (fun k _ _ => i 0 k (by omega)) (fun q k _ => hJ q k (by omega)), a3.w a6 (fun q k _ => i q k (by omega)) (fun q k _ => hJ q k (by omega)), a4.w a6 h1 (dynB.of id) (fun _ _ => rfl) (fun q k _ => hJ q k (by omega)), a5.w h1 (dynI.of id) dynF.rf rfl (fun q k _ => hJ q k (by omega)), a6.w (fun q k _ => hJ q k (by omega)), hB, a8.w (fun _ _ => rfl) (hJ 70 0 (by omega)), a9.w h1 (dynI.of id) ⟨i 0 6 (by omega), i 0 7 (by omega)⟩ (fun _ => rfl) (fun q k _ => hJ q k (by omega)), b1.w (fun q k _ => i q k (by omega)) (fun q k _ => hJ q k (by omega)), b2.w (fun k _ _ => i 0 k (by omega)) (fun k => hJ 84 k (by omega)), b3.w (fun q k _ => i q k (by omega)) (fun q k _ => hJ q k (by omega)) (by rw [hJ 70 0 (by omega)]; exact Nat.le_refl _), b4.w h1 (dynI.of id) dynF.rf (i 0 42 (by omega)) (fun _ => rfl) (fun q k _ => hJ q k (by omega)), b5.w (fun q k _ => i q k (by omega)) (fun q k _ => hJ q k (by omega)), b6.w h1 (dynA.of id (fun _ _ _ _ => rfl)) dynF.rf ⟨fun _ => rfl, fun _ _ z => z⟩ (fun q k _ => hJ q k (by omega)) (fun _ => rfl) (by rw [hJ 70 31 (by omega)]; exact Nat.le_refl _), b7.w (fun k => i 9 k (by omega)) (fun q k _ => hJ q k (by omega))⟩
