/-! WHAT RAN, on both sides -/
def k_ran (I : xI_T) (c : Int32) : xI_T := if I 0 39 < 24 then up2 (up2 I 31 (ix (I 0 39)) c) 0 39 (I 0 39 + 1) else up2 I 0 39 (I 0 39 + 1)
def k_rans : List Int32 → xI_T → xI_T
  | [], I => I
  | c :: r, I => k_rans r (k_ran I c)
theorem krans_app : ∀ (a b : List Int32) (I : xI_T), k_rans (a ++ b) I = k_rans b (k_rans a I)
  | [], _, _ => rfl
  | c :: r, b, I => krans_app r b (k_ran I c)
theorem kran_n {I : xI_T} {t : Nat} {c : Int32} (h : I 0 39 = nI t) : k_ran I c 0 39 = nI (t + 1) := by
  unfold k_ran
  split
  · rw [up2_s, h, nI_1]
  · rw [up2_s, h, nI_1]
theorem kran_o {I : xI_T} {c : Int32} {q j : Nat} (h : q ≠ 31) (h2 : ¬ (q = 0 ∧ j = 39)) : k_ran I c q j = I q j := by
  unfold k_ran
  split
  · rw [up2_n _ _ h2, up2_i _ _ h]
  · rw [up2_n _ _ h2]
theorem krans_n : ∀ (l : List Int32) {I : xI_T} {t : Nat}, I 0 39 = nI t → k_rans l I 0 39 = nI (t + l.length)
  | [], _, _, h => h
  | c :: r, I, t, h => by
    have e := krans_n r (kran_n (c := c) h)
    rw [show t + 1 + r.length = t + (c :: r).length by simp [List.length_cons]; omega] at e
    exact e
theorem krans_o {q j : Nat} (h : q ≠ 31) (h2 : ¬ (q = 0 ∧ j = 39)) : ∀ (l : List Int32) (I : xI_T), k_rans l I q j = I q j
  | [], _ => rfl
  | c :: r, I => (krans_o h h2 r (k_ran I c)).trans (kran_o h h2)
theorem mran_1 (I : xI_T) (b : Int32) : m_ran I b = if I 70 33 < 24 then up2 (up2 I 89 (ix (I 70 33)) b) 70 33 (I 70 33 + 1) else up2 I 70 33 (I 70 33 + 1) := by
  unfold m_ran
  by_cases h : I 70 33 < 24
  · simp only [if_pos h]
    rw [up2_i _ _ (show (70 : Nat) ≠ 89 by decide)]
  · simp only [if_neg h]
def ranR (I J : xI_T) (t : Nat) : Prop := J 70 33 = nI t ∧ I 0 39 = nI t ∧ ∀ k : Nat, k < t → k < 24 → I 31 k = J 89 k
theorem ranR.ran {I J : xI_T} {t : Nat} {c : Int32} (h : ranR I J t) (ht : t < 900) : ranR (k_ran I c) (m_ran J c) (t + 1) := by
  obtain ⟨h1, h2, h3⟩ := h
  refine ⟨ran_n h1, kran_n h2, fun k hk hk2 => ?_⟩
  have e : (nI t < 24) ↔ t < 24 := nI_ltI (b := 24) (by omega) (by decide)
  rw [mran_1]
  unfold k_ran
  rw [h1, h2]
  by_cases h4 : t < 24
  · rw [if_pos (e.mpr h4), if_pos (e.mpr h4), up2_i _ _ (show (31 : Nat) ≠ 0 by decide), up2_i _ _ (show (89 : Nat) ≠ 70 by decide), ix_n (by omega)]
    by_cases h5 : k = t
    · rw [h5, up2_s, up2_s]
    · rw [up2_k _ _ h5, up2_k _ _ h5]
      exact h3 k (by omega) hk2
  · rw [if_neg (fun y => h4 (e.mp y)), if_neg (fun y => h4 (e.mp y)), up2_i _ _ (show (31 : Nat) ≠ 0 by decide), up2_i _ _ (show (89 : Nat) ≠ 70 by decide)]
    exact h3 k (by omega) hk2
theorem ranR.rans : ∀ (l : List Int32) {I J : xI_T} {t : Nat}, ranR I J t → t + l.length ≤ 900 → ranR (k_rans l I) (m_rans l J) (t + l.length)
  | [], _, _, _, h, _ => h
  | c :: r, I, J, t, h, ht => by
    have hl : (c :: r).length = r.length + 1 := List.length_cons
    have e := ranR.rans r (h.ran (c := c) (by omega)) (by omega)
    rw [show t + 1 + r.length = t + (c :: r).length by omega] at e
    exact e
/-- an act, on both sides -/
theorem TOP.act {n : Nat} {Ty : Nat → xs_T} {I : xI_T} {L : xL_T} {F : xF_T} {J : xI_T} {M : xL_T} (h : TOP n Ty I L F J M) (l : List Int32) (hl : l.length ≤ 50) : TOP n Ty (k_rans l (up2 I 0 39 0)) L F (m_rans l (up2 J 70 33 0)) M := by
  obtain ⟨a1, a2, a3, a4, a5, a6, a7, a8, a9, b1, b2, b3, b4, b5, b6, b7⟩ := h
  have hI : ∀ q k : Nat, q ≠ 31 → ¬ (q = 0 ∧ k = 39) → k_rans l (up2 I 0 39 0) q k = I q k := fun q k y1 y2 => by rw [krans_o y1 y2, up2_n _ _ y2]
  have hJ : ∀ q k : Nat, q ≠ 89 → ¬ (q = 70 ∧ k = 33) → m_rans l (up2 J 70 33 0) q k = J q k := fun q k y1 y2 => by rw [rans_o y1 y2, up2_n _ _ y2]
  have hn3 : 103 ≤ n := a1.1
  have id : ∀ q k : Nat, 103 ≤ q → q < n → k_rans l (up2 I 0 39 0) q k = I q k := fun q k z _ => hI q k (by omega) (by omega)
  have hr : ranR (k_rans l (up2 I 0 39 0)) (m_rans l (up2 J 70 33 0)) (0 + l.length) := ranR.rans l ⟨up2_s _ _ _ _, up2_s _ _ _ _, fun k hk => absurd hk (Nat.not_lt_zero _)⟩ (by omega)
  rw [Nat.zero_add] at hr
  exact ⟨a1, a2.w (fun k _ _ => hI 0 k (by omega) (by omega)) (fun q k _ => hJ q k (by omega) (by omega)), a3.w a6 (fun q k _ => hI q k (by omega) (by omega)) (fun q k _ => hJ q k (by omega) (by omega)), a4.w a6 grw.rf (dynB.of id) (fun _ _ => rfl) (fun q k _ => hJ q k (by omega) (by omega)), a5.w grw.rf (dynI.of id) dynF.rf rfl (fun q k _ => hJ q k (by omega) (by omega)), a6.w (fun q k _ => hJ q k (by omega) (by omega)), a7.w (fun k => hI 23 k (by omega) (by omega)) (fun k => hJ 101 k (by omega) (by omega)), a8.w (fun _ _ => rfl) (hJ 70 0 (by omega) (by omega)), a9.w grw.rf (dynI.of id) ⟨hI 0 6 (by omega) (by omega), hI 0 7 (by omega) (by omega)⟩ (fun _ => rfl) (fun q k _ => hJ q k (by omega) (by omega)), b1.w (fun q k _ => hI q k (by omega) (by omega)) (fun q k _ => hJ q k (by omega) (by omega)), b2.w (fun k _ _ => hI 0 k (by omega) (by omega)) (fun k => hJ 84 k (by omega) (by omega)), b3.w (fun q k _ => hI q k (by omega) (by omega)) (fun q k _ => hJ q k (by omega) (by omega)) (by rw [hJ 70 0 (by omega) (by omega)]; exact Nat.le_refl _), b4.w grw.rf (dynI.of id) dynF.rf (hI 0 42 (by omega) (by omega)) (fun _ => rfl) (fun q k _ => hJ q k (by omega) (by omega)), ⟨l.length, by omega, hr.1, hr.2.1, hr.2.2⟩, b6.w grw.rf (dynA.of id (fun _ _ _ _ => rfl)) dynF.rf ⟨fun _ => rfl, fun _ _ z => z⟩ (fun q k _ => hJ q k (by omega) (by omega)) (fun _ => rfl) (by rw [hJ 70 31 (by omega) (by omega)]; exact Nat.le_refl _), b7.w (fun k => hI 9 k (by omega) (by omega)) (fun q k _ => hJ q k (by omega) (by omega))⟩
