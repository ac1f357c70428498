/-! MIRRORS OF THE REFERENCE, second half, and their bounds -/
theorem x_eqi {Θ : xT_T} {ce sl n : Nat} {Ty : Nat → xs_T} {I : xI_T} {L : xL_T} {F : xF_T} {pc : Nat} {lv : List (Option Value)} {st : List Value} {x : Int32} (v : Int32) (hv : x = v) (kk : X Θ ce sl n Ty I L F pc lv (.int v :: st)) : X Θ ce sl n Ty I L F pc lv (.int x :: st) := by
  subst hv
  exact kk
def m_fitsB (I : xI_T) (L : xL_T) (ss b w : Int32) : Int32 × xI_T :=
  if m_noR I ss < 0 then (m_noR I ss, I) else
  if w = 1 ∧ m_reads I L (ss / 10) 70 45 ≤ b then (-1, m_reads I L (ss / 10)) else
  if w = 0 then m_thirds (m_reads I L (ss / 10)) L (irm ss 10) else if w = 1 then m_whose (m_reads I L (ss / 10)) L (irm ss 10) (ix b) else m_wanted (m_reads I L (ss / 10)) L (irm ss 10) (ix b) (if w = 3 then 1 else 0)
theorem fitsB_0 {I : xI_T} {L : xL_T} {ss b w : Int32} (h : m_noR I ss < 0) : m_fitsB I L ss b w = (m_noR I ss, I) := by
  unfold m_fitsB
  rw [if_pos h]
theorem fitsB_1 {I : xI_T} {L : xL_T} {ss b w : Int32} (h : ¬ m_noR I ss < 0) (h1 : w = 1) (h2 : ¬ b < m_reads I L (ss / 10) 70 45) : m_fitsB I L ss b w = (-1, m_reads I L (ss / 10)) := by
  unfold m_fitsB
  rw [if_neg h, if_pos ⟨h1, Int32.not_lt.mp h2⟩]
theorem fitsB_2 {I : xI_T} {L : xL_T} {ss b w : Int32} (h : ¬ m_noR I ss < 0) (h0 : w = 0) : m_fitsB I L ss b w = m_thirds (m_reads I L (ss / 10)) L (irm ss 10) := by
  unfold m_fitsB
  rw [if_neg h, if_neg (fun q => absurd (h0.symm.trans q.1) (by decide)), if_pos h0]
theorem fitsB_3 {I : xI_T} {L : xL_T} {ss b w : Int32} (h : ¬ m_noR I ss < 0) (h1 : w = 1) (h2 : b < m_reads I L (ss / 10) 70 45) : m_fitsB I L ss b w = m_whose (m_reads I L (ss / 10)) L (irm ss 10) (ix b) := by
  unfold m_fitsB
  rw [if_neg h, if_neg (fun q => absurd q.2 (Int32.not_le.mpr h2)), if_neg (fun q => absurd (h1.symm.trans q) (by decide)), if_pos h1]
theorem fitsB_4 {I : xI_T} {L : xL_T} {ss b w : Int32} (h : ¬ m_noR I ss < 0) (h0 : ¬ w = 0) (h1 : ¬ w = 1) : m_fitsB I L ss b w = m_wanted (m_reads I L (ss / 10)) L (irm ss 10) (ix b) (if w = 3 then 1 else 0) := by
  unfold m_fitsB
  rw [if_neg h, if_neg (fun q => h1 q.1), if_neg h0, if_neg h1]
theorem w_gt1 {w : Int32} (h : ¬ inR w 0 3 = 0) (h0 : ¬ w = 0) (h1 : ¬ w = 1) : 1 < w := by
  rcases inR_03 h with q | q | q | q
  · exact absurd q h0
  · exact absurd q h1
  · subst q
    decide
  · subst q
    decide
theorem Wall.w71 {I : xI_T} {p : Nat} {v : Int32} (h : Wall I) : Wall (up2 I 71 p v) := by
  obtain ⟨m, w, r⟩ := h
  exact ⟨m.mv (up2_i _ _ (by decide)) (up2_i _ _ (by decide)) fun j _ _ => up2_i _ _ (by decide), w.up rfl (fun z => by omega), r.mv (up2_i _ _ (by decide)) fun j => up2_i _ _ (by decide)⟩
theorem wa_0 {k : Nat} {w : Int32} (hk : k ≤ 10) (hw : w = nI (10 - k) - 1) (h : w < 0) : k = 10 := by
  rcases Nat.lt_or_ge k 10 with q | q
  · rw [hw, nI_m1 (by omega)] at h
    exact absurd h (nI_pos (by omega))
  · omega
theorem wa_1 {k : Nat} {w : Int32} (hk : k ≤ 10) (hw : w = nI (10 - k) - 1) (h : ¬ w < 0) : k < 10 ∧ w = nI (9 - k) := by
  rcases Nat.lt_or_ge k 10 with q | q
  · refine ⟨q, ?_⟩
    rw [hw, nI_m1 (by omega), show 10 - k - 1 = 9 - k by omega]
  · have e : k = 10 := by omega
    subst e
    subst hw
    exact absurd (by decide) h
theorem wa_2 {k : Nat} {w v : Int32} (hk : k < 10) (hw : w = nI (9 - k)) (hv : v = w + (-1)) : v = nI (10 - (k + 1)) - 1 := by
  rw [hv, hw, Int32.sub_eq_add_neg, show 10 - (k + 1) = 9 - k by omega]
-- by turns
theorem par_rem {i : Nat} (hi : i < 1000) : nI i - nI i / 2 * 2 = nI (i % 2) := pk_rem (a := i) (d := 2) (by omega) (by decide) (by decide)
theorem par_0 {i : Nat} (hi : i < 1000) (h : nI i - nI i / 2 * 2 = 0) : i % 2 = 0 := by
  rw [par_rem hi] at h
  exact (nI_eq (a := i % 2) (b := 0) (by omega) (by decide)).mp h
theorem par_1 {i : Nat} (hi : i < 1000) (h : ¬ nI i - nI i / 2 * 2 = 0) : ¬ i % 2 = 0 := by
  rw [par_rem hi] at h
  intro q
  rw [q] at h
  exact h rfl
theorem keeps_o {I : xI_T} {a o q j : Nat} (h : q ≠ a ∨ j < o ∨ o + 31 ≤ j) : m_keeps I a o q j = I q j := by
  unfold m_keeps
  rw [cpy2_ap, if_neg (by omega)]
theorem lays_72 {I : xI_T} {a o j : Nat} (h : j < 31) : m_lays I a o 72 j = I a (o + j) := by
  unfold m_lays
  rw [cpy2_ap, if_pos ⟨rfl, by omega, by omega⟩]
  congr 1
theorem keeps_a {I : xI_T} {a o j : Nat} (h : j < 31) : m_keeps I a o a (o + j) = I 72 j := by
  unfold m_keeps
  rw [cpy2_ap, if_pos ⟨rfl, by omega, by omega⟩]
  congr 1
  omega
theorem Wmk.keeps {I : xI_T} {a o : Nat} (h : Wmk I) (ha : a ≠ 70) (h2 : a ≠ 72) : Wmk (m_keeps I a o) := h.mv (keeps_o (Or.inl (Ne.symm ha))) (keeps_o (Or.inl (Ne.symm ha))) fun j _ _ => keeps_o (Or.inl (Ne.symm h2))
theorem Wlaw.keeps {I : xI_T} {a o : Nat} (h : Wlaw I) (ha : a ≠ 70) (h2 : 77 < a) : Wlaw (m_keeps I a o) := h.mv (keeps_o (Or.inl (Ne.symm ha))) fun q j h3 h4 => keeps_o (Or.inl (by omega))
theorem gz_q {q j : Nat} (h : q ≠ 70 ∧ q ≠ 72 ∧ q ≠ 82 ∧ q ≠ 83 ∧ q ≠ 95) : gz q j := ⟨h.2.1, h.2.2.1, h.2.2.2.1, h.2.2.2.2, fun z => absurd z h.1⟩
theorem turn_s {a b : Int32} {d i : Nat} {I : xI_T} : m_turn a b (d + 1) i I = (if i % 2 = 0 then jmax (m_turn a b d (i + 1) I).1 (m_comesAt a b d i (m_turn a b d (i + 1) I).2).1 else jmin (m_turn a b d (i + 1) I).1 (m_comesAt a b d i (m_turn a b d (i + 1) I).2).1, (m_comesAt a b d i (m_turn a b d (i + 1) I).2).2) := by
  simp only [m_turn, m_comesAt]
theorem comesAt_2 {a b : Int32} {d i : Nat} {I : xI_T} : (m_comesAt a b d i I).2 = m_lays (m_turn a b d (i + 1) (m_goes1 (m_keeps I 94 (31 * i)) (if i % 2 = 0 then a else b))).2 94 (31 * i) := by
  simp only [m_comesAt]
def turnK (i : Nat) (I J : xI_T) : Prop := (∀ q j : Nat, gz q j → q ≠ 94 → J q j = I q j) ∧ (∀ j : Nat, j < 31 * i → J 94 j = I 94 j) ∧ ∀ j : Nat, j < 31 → J 72 j = I 72 j
theorem turnK.tr {i : Nat} {I J K : xI_T} (h : turnK i I J) (g : turnK i J K) : turnK i I K := ⟨fun q j h1 h2 => (g.1 q j h1 h2).trans (h.1 q j h1 h2), fun j hj => (g.2.1 j hj).trans (h.2.1 j hj), fun j hj => (g.2.2 j hj).trans (h.2.2 j hj)⟩
theorem turnK.up {i : Nat} {I J : xI_T} (h : turnK (i + 1) I J) : turnK i I J := ⟨h.1, fun j hj => h.2.1 j (by omega), h.2.2⟩
theorem comesAt_K {a b : Int32} {d i : Nat} {I : xI_T} (ih : ∀ I : xI_T, turnK (i + 1) I (m_turn a b d (i + 1) I).2) : turnK i I (m_comesAt a b d i I).2 := by
  rw [comesAt_2]
  have hz := ih (m_goes1 (m_keeps I 94 (31 * i)) (if i % 2 = 0 then a else b))
  generalize (m_turn a b d (i + 1) (m_goes1 (m_keeps I 94 (31 * i)) (if i % 2 = 0 then a else b))).2 = Z at hz
  refine ⟨fun q j h1 h2 => ?_, fun j hj => ?_, fun j hj => ?_⟩
  · rw [lays_o h1.1, hz.1 q j h1 h2, goes1_o h1, keeps_o (Or.inl h2)]
  · rw [lays_o (by decide), hz.2.1 j (by omega), goes1_o (gz_q ⟨by decide, by decide, by decide, by decide, by decide⟩), keeps_o (Or.inr (Or.inl hj))]
  · rw [lays_72 hj, hz.2.1 (31 * i + j) (by omega), goes1_o (gz_q ⟨by decide, by decide, by decide, by decide, by decide⟩), keeps_a hj]
theorem turn_K {a b : Int32} : ∀ (d i : Nat) (I : xI_T), turnK i I (m_turn a b d i I).2
  | 0, _, _ => ⟨fun _ _ _ _ => rfl, fun _ _ => rfl, fun _ _ => rfl⟩
  | d + 1, i, I => by
    rw [turn_s]
    exact (turn_K d (i + 1) I).up.tr (comesAt_K (fun I => turn_K d (i + 1) I))
theorem turnK.W {i : Nat} {I J : xI_T} (h : turnK i I J) (hM : Wmk I) (hW : Wlaw I) : Wmk J ∧ Wlaw J := by
  have g70 : ∀ j : Nat, j < 40 → gz 70 j := fun j hj => ⟨by decide, by decide, by decide, by decide, fun _ => Or.inl hj⟩
  exact ⟨hM.mv (h.1 70 0 (g70 0 (by decide)) (by decide)) (h.1 70 2 (g70 2 (by decide)) (by decide)) fun j _ h2 => h.2.2 j (by omega), hW.mv (h.1 70 8 (g70 8 (by decide)) (by decide)) fun q j h1 h2 => h.1 q j (gz_q ⟨by omega, by omega, by omega, by omega, by omega⟩) (by omega)⟩
def TurnP (d : Nat) : Prop := ∀ (l : Launch) (G : xG_T) (n : Nat) (_ : 103 ≤ n) (I : xI_T) (L : xL_T) (i : Nat) (a b : Int32) (_ : i + d ≤ 5) (_ : Wmk I) (_ : Wlaw I) (_ : vp_in a 8) (_ : vp_in b 8), CM l (5 + 2 * d) yX3_turnFrom cX3_turnFrom 7 (some .int) G n [.ref (xb G + 70), .int (nI i), .int (nI (i + d)), .int a, .int b] I L (some (.int (m_turn a b d i I).1)) (m_turn a b d i I).2 L
theorem pair_2 {I : xI_T} {ab : Int32} (hb : vp_in (I 70 0) 9) (h : ¬ m_pair I ab = 0) : vp_in (ab / 10) 8 ∧ vp_in (irm ab 10) 8 ∧ ¬ ab / 10 = irm ab 10 := by
  unfold m_pair at h
  by_cases h1 : ab < 0
  · rw [if_pos h1] at h
    exact absurd rfl h
  · rw [if_neg h1] at h
    by_cases h2 : m_isB I (ab / 10) = 0
    · rw [if_pos h2] at h
      exact absurd rfl h
    · rw [if_neg h2] at h
      by_cases h3 : m_isB I (irm ab 10) = 0
      · rw [if_pos h3] at h
        exact absurd rfl h
      · rw [if_neg h3] at h
        refine ⟨isB_in hb h2, isB_in hb h3, fun q => ?_⟩
        rw [if_pos q] at h
        exact absurd rfl h
theorem turns_z {z : Int32} (h : ¬ inR z 1 5 = 0) : ∃ e : Nat, e < 5 ∧ z = nI (1 + e) := by
  obtain ⟨h1, h2⟩ := inR_n.mp h
  rw [i_lt, show (1 : Int32).toInt = 1 from rfl] at h1
  rw [i_lt, show (5 : Int32).toInt = 5 from rfl] at h2
  obtain ⟨j, hj, rfl⟩ := vp_in_of (x := z) (n := 6) (vp_in_iff.mpr (by omega)) (by decide)
  rw [nI_toInt (by omega)] at h1
  exact ⟨j - 1, by omega, by rw [show 1 + (j - 1) = j by omega]⟩
def m_byTurnsB (I : xI_T) (ab : Int32) (e : Nat) (w : Int32) : Int32 × xI_T :=
  (if w = 0 then jmax (m_turn (ab / 10) (irm ab 10) e 1 I).1 (m_comesAt (ab / 10) (irm ab 10) e 0 (m_turn (ab / 10) (irm ab 10) e 1 I).2).1 else if (m_turn (ab / 10) (irm ab 10) e 1 I).1 < (m_comesAt (ab / 10) (irm ab 10) e 0 (m_turn (ab / 10) (irm ab 10) e 1 I).2).1 then 1 else 0, (m_comesAt (ab / 10) (irm ab 10) e 0 (m_turn (ab / 10) (irm ab 10) e 1 I).2).2)
theorem byTurns_B {I : xI_T} {ab w : Int32} {e : Nat} (h1 : ¬ m_pair I ab = 0) (h2 : ¬ inR (nI (1 + e)) 1 5 = 0) (h3 : ¬ inR w 0 1 = 0) (he : e < 5) : m_byTurns I ab (nI (1 + e)) w = m_byTurnsB I ab e w := by
  have e1 : ix (nI (1 + e)) - 1 = e := by
    rw [ix_n (by omega)]
    omega
  unfold m_byTurns m_byTurnsB
  rw [if_neg h1, if_neg h2, if_neg h3, e1]
