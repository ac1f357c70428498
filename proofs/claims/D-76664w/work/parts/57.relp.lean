/-! PAYING, on both sides -/
def k_pays (I : xI_T) (g : Nat) (f o t : Int32) : xI_T := if f = t then I else
  let v := jmin o (I (g + 1) (ix f))
  let I1 := up2 I g 9 (I g 9 + (o - v))
  let I2 := up2 I1 (g + 1) (ix f) (I1 (g + 1) (ix f) - v)
  let I3 := up2 I2 (g + 1) (ix t) (jmin 999 (I2 (g + 1) (ix t) + v))
  let I4 := up2 I3 0 16 (I3 0 16 + v)
  up2 I4 (14 + ix f) (ix t) (I4 (14 + ix f) (ix t) + v)
theorem payTo_R {I J : xI_T} {g w x : Nat} {o : Int32} (hR : RC I J g) (hQ : RQ I J) (hb : ix (J 70 0) ≤ 8) (hw : w < ix (J 70 0)) (hx : x < ix (J 70 0)) (hwx : w ≠ x) (hg : 34 ≤ g) : RC (k_pays I g (nI w) o (nI x)) (m_payTo J (nI w) o (nI x)) g ∧ RQ (k_pays I g (nI w) o (nI x)) (m_payTo J (nI w) o (nI x)) ∧ (RP I J → RP (k_pays I g (nI w) o (nI x)) (m_payTo J (nI w) o (nI x))) := by
  have ew : ix (nI w) = w := ix_n (by omega)
  have ex : ix (nI x) = x := ix_n (by omega)
  have e8 : ix (8 * nI w + nI x) = 8 * w + x := by
    rw [show (8 : Int32) * nI w = nI (8 * w) from pk_mul 8 w, nI_add]
    exact ix_n (by omega)
  have hne : ¬ nI w = nI x := fun z => hwx ((nI_eq (by omega) (by omega)).mp z)
  obtain ⟨a, ⟨b1, b2⟩, c, d, e, f⟩ := hR
  obtain ⟨q1, q2, q3⟩ := hQ
  have ev : jmin o (I (g + 1) w) = jmin o (J 72 w) := by rw [(a w hw).1]
  have hk : k_pays I g (nI w) o (nI x) = up2 (up2 (up2 (up2 (up2 I g 9 (I g 9 + (o - jmin o (J 72 w)))) (g + 1) w (I (g + 1) w - jmin o (J 72 w))) (g + 1) x (jmin 999 (I (g + 1) x + jmin o (J 72 w)))) 0 16 (I 0 16 + jmin o (J 72 w))) (14 + w) x (I (14 + w) x + jmin o (J 72 w)) := by
    unfold k_pays
    rw [if_neg hne]
    simp only [ew, ex, ev]
    rw [up2_i I _ (show g + 1 ≠ g by omega), up2_k _ _ (show x ≠ w by omega), up2_i I _ (show g + 1 ≠ g by omega), up2_i _ _ (show 0 ≠ g + 1 by omega), up2_i _ _ (show 0 ≠ g + 1 by omega), up2_i _ _ (show 0 ≠ g by omega), up2_i _ _ (show 14 + w ≠ 0 by omega), up2_i _ _ (show 14 + w ≠ g + 1 by omega), up2_i _ _ (show 14 + w ≠ g + 1 by omega), up2_i _ _ (show 14 + w ≠ g by omega)]
  have hm : m_payTo J (nI w) o (nI x) = up2 (up2 (up2 (up2 (up2 J 70 43 (J 70 43 + (o - jmin o (J 72 w)))) 70 41 (J 70 41 + jmin o (J 72 w))) 95 (8 * w + x) (J 95 (8 * w + x) + jmin o (J 72 w))) 72 w (J 72 w - jmin o (J 72 w))) 72 x (jmin 999 (J 72 x + jmin o (J 72 w))) := by
    simp only [m_payTo, ew, ex, e8]
    rw [up2_k _ _ (show x ≠ w by omega)]
    simp only [up2_i _ _ (show (72 : Nat) ≠ 95 by decide), up2_i _ _ (show (72 : Nat) ≠ 70 by decide), up2_i _ _ (show (95 : Nat) ≠ 70 by decide), up2_k _ _ (show (41 : Nat) ≠ 43 by decide)]
  rw [hk, hm]
  generalize jmin o (J 72 w) = v
  have hI : ∀ q j : Nat, q ≠ 14 + w → q ≠ 0 → q ≠ g + 1 → q ≠ g → up2 (up2 (up2 (up2 (up2 I g 9 (I g 9 + (o - v))) (g + 1) w (I (g + 1) w - v)) (g + 1) x (jmin 999 (I (g + 1) x + v))) 0 16 (I 0 16 + v)) (14 + w) x (I (14 + w) x + v) q j = I q j := fun q j z1 z2 z3 z4 => by rw [up2_i _ _ z1, up2_i _ _ z2, up2_i _ _ z3, up2_i _ _ z3, up2_i _ _ z4]
  have hJ : ∀ q j : Nat, (q = 72 → 8 ≤ j) → q ≠ 95 → (q = 70 → j ≠ 41 ∧ j ≠ 43) → up2 (up2 (up2 (up2 (up2 J 70 43 (J 70 43 + (o - v))) 70 41 (J 70 41 + v)) 95 (8 * w + x) (J 95 (8 * w + x) + v)) 72 w (J 72 w - v)) 72 x (jmin 999 (J 72 x + v)) q j = J q j := fun q j z1 z2 z3 => by rw [up2_n _ _ (fun z => by have := z1 z.1; omega), up2_n _ _ (fun z => by have := z1 z.1; omega), up2_i _ _ z2, up2_n _ _ (fun z => (z3 z.1).1 z.2), up2_n _ _ (fun z => (z3 z.1).2 z.2)]
  refine ⟨⟨fun k hk => ⟨?_, ?_, ?_⟩, ⟨?_, fun k hk => ⟨?_, ?_, ?_⟩⟩, ?_, ?_, ?_, ?_⟩, ⟨?_, ?_, ?_⟩, fun hP s t hs ht => ?_⟩
  · have hk2 : k < ix (J 70 0) := by simpa [up2_ap] using hk
    rw [up2_i _ _ (show g + 1 ≠ 14 + w by omega), up2_i _ _ (show g + 1 ≠ 0 by omega)]
    by_cases k1 : k = x
    · subst k1
      rw [up2_s, up2_s, (a k hk2).1]
    · rw [up2_k _ _ k1, up2_k _ _ k1]
      by_cases k3 : k = w
      · subst k3
        rw [up2_s, up2_s, (a k hk2).1]
      · rw [up2_k _ _ k3, up2_k _ _ k3, up2_i _ _ (show g + 1 ≠ g by omega), up2_i _ _ (by decide), up2_i _ _ (by decide), up2_i _ _ (by decide)]
        exact (a k hk2).1
  · have hk2 : k < ix (J 70 0) := by simpa [up2_ap] using hk
    rw [up2_i _ _ (show g + 2 ≠ 14 + w by omega), up2_i _ _ (show g + 2 ≠ 0 by omega), up2_i _ _ (show g + 2 ≠ g + 1 by omega), up2_i _ _ (show g + 2 ≠ g + 1 by omega), up2_i _ _ (show g + 2 ≠ g by omega)]
    simpa [up2_ap] using (a k hk2).2.1
  · have hk2 : k < ix (J 70 0) := by simpa [up2_ap] using hk
    rw [up2_i _ _ (show g + 3 ≠ 14 + w by omega), up2_i _ _ (show g + 3 ≠ 0 by omega), up2_i _ _ (show g + 3 ≠ g + 1 by omega), up2_i _ _ (show g + 3 ≠ g + 1 by omega), up2_i _ _ (show g + 3 ≠ g by omega), up2_k _ _ (show 10 + k ≠ x by omega), up2_k _ _ (show 10 + k ≠ w by omega), up2_i _ _ (by decide), up2_i _ _ (by decide), up2_i _ _ (by decide)]
    exact (a k hk2).2.2
  · rw [up2_i _ _ (show g ≠ 14 + w by omega), up2_i _ _ (show g ≠ 0 by omega), up2_i _ _ (show g ≠ g + 1 by omega), up2_i _ _ (show g ≠ g + 1 by omega), up2_k _ _ (show 5 ≠ 9 by decide), up2_k _ _ (show 18 ≠ x by omega), up2_k _ _ (show 18 ≠ w by omega), up2_i _ _ (by decide), up2_i _ _ (by decide), up2_i _ _ (by decide)]
    exact b1
  · rw [hJ 72 18 (fun _ => by decide) (by decide) (by decide)] at hk
    rw [hI _ _ (by omega) (by omega) (by omega) (by omega), hJ _ _ (fun _ => by omega) (by decide) (by omega)]
    exact (b2 k hk).1
  · rw [hJ 72 18 (fun _ => by decide) (by decide) (by decide)] at hk
    rw [hI _ _ (by omega) (by omega) (by omega) (by omega), hJ _ _ (fun _ => by omega) (by decide) (by omega)]
    exact (b2 k hk).2.1
  · rw [hJ 72 18 (fun _ => by decide) (by decide) (by decide)] at hk
    rw [hJ 70 0 (by decide) (by decide) (by decide), hJ 72 (19 + k) (fun _ => by omega) (by decide) (by omega)]
    exact (b2 k hk).2.2
  · rw [up2_i _ _ (show g ≠ 14 + w by omega), up2_i _ _ (show g ≠ 0 by omega), up2_i _ _ (show g ≠ g + 1 by omega), up2_i _ _ (show g ≠ g + 1 by omega), up2_k _ _ (by decide), hJ _ _ (fun _ => by decide) (by decide) (by decide)]
    exact c
  · rw [up2_i _ _ (show g ≠ 14 + w by omega), up2_i _ _ (show g ≠ 0 by omega), up2_i _ _ (show g ≠ g + 1 by omega), up2_i _ _ (show g ≠ g + 1 by omega), up2_k _ _ (by decide), hJ _ _ (by decide) (by decide) (by decide)]
    exact d
  · rw [up2_i _ _ (show g ≠ 14 + w by omega), up2_i _ _ (show g ≠ 0 by omega), up2_i _ _ (show g ≠ g + 1 by omega), up2_i _ _ (show g ≠ g + 1 by omega), up2_k _ _ (by decide), hJ _ _ (fun _ => by decide) (by decide) (by decide)]
    exact e
  · rw [up2_i _ _ (show g ≠ 14 + w by omega), up2_i _ _ (show g ≠ 0 by omega), up2_i _ _ (show g ≠ g + 1 by omega), up2_i _ _ (show g ≠ g + 1 by omega), up2_s, up2_i _ _ (by decide), up2_i _ _ (by decide), up2_i _ _ (by decide), up2_k _ _ (by decide), up2_s, f]
  · rw [up2_i _ _ (show 0 ≠ 14 + w by omega), up2_k _ _ (by decide), up2_i _ _ (show 0 ≠ g + 1 by omega), up2_i _ _ (show 0 ≠ g + 1 by omega), up2_i _ _ (show 0 ≠ g by omega), hJ _ _ (by decide) (by decide) (by decide)]
    exact q1
  · rw [up2_i _ _ (show 0 ≠ 14 + w by omega), up2_s, up2_i _ _ (by decide), up2_i _ _ (by decide), up2_i _ _ (by decide), up2_s, q2]
  · rw [up2_i _ _ (show 0 ≠ 14 + w by omega), up2_k _ _ (by decide), up2_i _ _ (show 0 ≠ g + 1 by omega), up2_i _ _ (show 0 ≠ g + 1 by omega), up2_i _ _ (show 0 ≠ g by omega), hJ _ _ (by decide) (by decide) (by decide)]
    exact q3
  · rw [up2_i _ _ (show (95 : Nat) ≠ 72 by decide), up2_i _ _ (show (95 : Nat) ≠ 72 by decide)]
    by_cases h1 : s = w ∧ t = x
    · obtain ⟨rfl, rfl⟩ := h1
      rw [up2_s, up2_s, hP s t hs ht]
    · rw [up2_n _ _ (show ¬ (14 + s = 14 + w ∧ t = x) by omega), up2_n _ _ (show ¬ ((95 : Nat) = 95 ∧ 8 * s + t = 8 * w + x) by omega), up2_i _ _ (by omega), up2_i _ _ (by omega), up2_i _ _ (by omega), up2_i _ _ (by omega), up2_i _ _ (by decide), up2_i _ _ (by decide)]
      exact hP s t hs ht
theorem kold_o {I : xI_T} {g c q j : Nat} (h : q ≠ g + 4) (h2 : q ≠ g + 5) : k_old I g c q j = I q j := by
  unfold k_old
  rw [if_neg (fun z => h z.1), if_neg (fun z => h2 z.1)]
theorem ktake_o {I : xI_T} {g q j : Nat} (h : q ≠ g + 4) (h2 : q ≠ g + 5) (h3 : q ≠ g) : k_take I g q j = I q j := by
  unfold k_take
  rw [kold_o h h2, up2_i _ _ h3]
theorem take_R {I J : xI_T} {g z : Nat} (hR : RC I J g) (hb : ix (J 70 0) ≤ 8) (hz : J 72 18 = nI (z + 1)) (hz5 : z ≤ 4) : RC (k_take I g) (m_shift (up2 J 72 18 (J 72 18 - 1)) (ix (J 72 18 - 1))) g := by
  have e : J 72 18 - 1 = nI z := by
    rw [hz]
    exact nI_pred z
  obtain ⟨a, ⟨b1, b2⟩, c, d, e1, f⟩ := hR
  have eI : I g 5 - 1 = nI z := by rw [b1]; exact e
  have hI : k_take I g = k_old (up2 I g 5 (nI z)) g z := by
    unfold k_take
    rw [eI, ix_n (by omega)]
  have hz6 : ix (J 72 18) = z + 1 := by rw [hz]; exact ix_n (by omega)
  rw [hI, e, ix_n (show z < 2147483648 by omega)]
  have hJ : ∀ q j : Nat, (q = 72 → j < 18) → m_shift (up2 J 72 18 (nI z)) z q j = J q j := fun q j h => by
    unfold m_shift
    rw [if_neg (fun y => by have := h y.1; omega), if_neg (fun y => by have := h y.1; omega), up2_n _ _ (fun y => by have := h y.1; omega)]
  have h18 : m_shift (up2 J 72 18 (nI z)) z 72 18 = nI z := by
    unfold m_shift
    rw [if_neg (by omega), if_neg (by omega), up2_s]
  refine ⟨fun k hk => ?_, ⟨?_, fun k hk => ?_⟩, ?_, ?_, ?_, ?_⟩
  · rw [hJ 70 0 (by decide)] at hk
    rw [kold_o (by omega) (by omega), kold_o (by omega) (by omega), kold_o (by omega) (by omega), up2_i _ _ (by omega), up2_i _ _ (by omega), up2_i _ _ (by omega), hJ _ _ (fun _ => by omega), hJ _ _ (by omega), hJ _ _ (fun _ => by omega)]
    exact a k hk
  · rw [kold_o (by omega) (by omega), up2_s, h18]
  · rw [h18, ix_n (by omega)] at hk
    obtain ⟨c1, c2, w, c3, c4⟩ := b2 (k + 1) (by omega)
    have j1 : m_shift (up2 J 72 18 (nI z)) z 72 (19 + k) = J 72 (19 + (k + 1)) := by
      unfold m_shift
      rw [if_pos ⟨rfl, by omega, by omega⟩, up2_k _ _ (by omega)]
      rfl
    have j2 : m_shift (up2 J 72 18 (nI z)) z 72 (25 + k) = J 72 (25 + (k + 1)) := by
      unfold m_shift
      rw [if_neg (by omega), if_pos ⟨rfl, by omega, by omega⟩, up2_k _ _ (by omega)]
      rfl
    have i1 : k_old (up2 I g 5 (nI z)) g z (g + 4) k = I (g + 4) (k + 1) := by
      unfold k_old
      rw [if_pos ⟨rfl, by omega⟩, up2_i _ _ (by omega)]
    have i2 : k_old (up2 I g 5 (nI z)) g z (g + 5) k = I (g + 5) (k + 1) := by
      unfold k_old
      rw [if_neg (by omega), if_pos ⟨rfl, by omega⟩, up2_i _ _ (by omega)]
    rw [j1, j2, i1, i2, hJ 70 0 (by decide)]
    exact ⟨c1, c2, w, c3, c4⟩
  · rw [kold_o (by omega) (by omega), up2_k _ _ (by decide), hJ _ _ (fun _ => by decide)]; exact c
  · rw [kold_o (by omega) (by omega), up2_k _ _ (by decide), hJ _ _ (by decide)]; exact d
  · rw [kold_o (by omega) (by omega), up2_k _ _ (by decide), hJ _ _ (fun _ => by decide)]; exact e1
  · rw [kold_o (by omega) (by omega), up2_k _ _ (by decide), hJ _ _ (by decide)]; exact f
def k_first (I : xI_T) (f : Int32) : xI_T := if I 0 15 = 8 then up2 I 0 15 f else I
theorem kfirst_o {I : xI_T} {f : Int32} {q j : Nat} (h : ¬ (q = 0 ∧ j = 15)) : k_first I f q j = I q j := by
  unfold k_first
  split
  · exact up2_n _ _ h
  · rfl
/-- one debt paid, on both sides -/
theorem pays_R {I J : xI_T} {g z x : Nat} (hR : RC I J g) (hQ : RQ I J) (hb : ix (J 70 0) ≤ 8) (hz : J 72 18 = nI (z + 1)) (hz5 : z ≤ 4) (hx : x < ix (J 70 0)) (hg : 34 ≤ g) : RC (k_pays (k_first (k_take I g) (J 72 19)) g (J 72 19) (J 72 25) (nI x)) (m_pays J (nI x)) g ∧ RQ (k_pays (k_first (k_take I g) (J 72 19)) g (J 72 19) (J 72 25) (nI x)) (m_pays J (nI x)) ∧ (RP I J → RP (k_pays (k_first (k_take I g) (J 72 19)) g (J 72 19) (J 72 25) (nI x)) (m_pays J (nI x))) := by
  have hT := take_R hR hb hz hz5
  obtain ⟨w, hw, ew⟩ := (hR.2.1.2 0 (by rw [hz, ix_n (by omega)]; omega)).2.2
  have ew : J 72 19 = nI w := ew
  have j0 : ∀ q j : Nat, (q = 72 → j < 18) → m_shift (up2 J 72 18 (J 72 18 - 1)) (ix (J 72 18 - 1)) q j = J q j := fun q j h => by
    unfold m_shift
    rw [if_neg (fun y => by have := h y.1; omega), if_neg (fun y => by have := h y.1; omega), up2_n _ _ (fun y => by have := h y.1; omega)]
  generalize hJ1 : m_shift (up2 J 72 18 (J 72 18 - 1)) (ix (J 72 18 - 1)) = J1 at hT j0
  have hQ1 : RQ (k_take I g) J1 := by
    unfold RQ
    rw [ktake_o (by omega) (by omega) (by omega), ktake_o (by omega) (by omega) (by omega), ktake_o (by omega) (by omega) (by omega), j0 _ _ (by decide), j0 _ _ (by decide), j0 _ _ (by decide)]
    exact hQ
  have hP1 : RP I J → RP (k_take I g) J1 := fun h s t hs ht => by
    rw [ktake_o (by omega) (by omega) (by omega), j0 _ _ (by omega)]
    exact h s t hs ht
  have hT2 : RC (k_first (k_take I g) (J 72 19)) (m_first J1 (J 72 19)) g := hT.mv (fun q k h1 h2 => kfirst_o (by omega)) (first_o (by decide)) (first_o (by decide)) (first_o (by decide)) (fun k _ => first_o (by omega)) (fun k => first_o (by omega)) (by rw [j0 _ _ (by decide)]; exact hb)
  have hQ2 : RQ (k_first (k_take I g) (J 72 19)) (m_first J1 (J 72 19)) := by
    refine ⟨?_, ?_, ?_⟩
    · unfold k_first m_first
      rw [hQ1.1]
      split
      · rw [up2_s, up2_s]
      · exact hQ1.1
    · rw [kfirst_o (by omega), first_o (by omega)]
      exact hQ1.2.1
    · rw [kfirst_o (by omega), first_o (by omega)]
      exact hQ1.2.2
  have hP2 : RP I J → RP (k_first (k_take I g) (J 72 19)) (m_first J1 (J 72 19)) := fun h s t hs ht => by
    rw [kfirst_o (by omega), first_o (by omega)]
    exact hP1 h s t hs ht
  have e0 : m_first J1 (J 72 19) 70 0 = J 70 0 := by rw [first_o (by decide), j0 _ _ (by decide)]
  have em : m_pays J (nI x) = if J 72 19 = nI x then m_first J1 (J 72 19) else m_payTo (m_first J1 (J 72 19)) (J 72 19) (J 72 25) (nI x) := by rw [← hJ1]; rfl
  rw [em]
  by_cases hxw : J 72 19 = nI x
  · rw [if_pos hxw]
    have ek : k_pays (k_first (k_take I g) (J 72 19)) g (J 72 19) (J 72 25) (nI x) = k_first (k_take I g) (J 72 19) := by
      unfold k_pays
      rw [if_pos hxw]
    rw [ek]
    exact ⟨hT2, hQ2, hP2⟩
  · rw [if_neg hxw, ew]
    rw [ew] at hT2 hQ2 hP2 hxw e0
    have hh := payTo_R (o := J 72 25) hT2 hQ2 (by rw [e0]; exact hb) (by rw [e0]; exact hw) (by rw [e0]; exact hx) (fun q => hxw (by rw [q])) hg
    exact ⟨hh.1, hh.2.1, fun h => hh.2.2 (hP2 h)⟩
theorem kpays_o {I : xI_T} {g w x q j : Nat} {o : Int32} (hw : w < 8) (hx : x < 8) (h : ¬ cset g q j) : k_pays I g (nI w) o (nI x) q j = I q j := by
  unfold cset at h
  unfold k_pays
  split
  · rfl
  · simp only [ix_n (show w < 2147483648 by omega), ix_n (show x < 2147483648 by omega)]
    rw [up2_i _ _ (by omega), up2_n _ _ (by omega), up2_i _ _ (by omega), up2_i _ _ (by omega), up2_i _ _ (by omega)]
theorem paysF {I A : xI_T} {g w x : Nat} {o : Int32} (hw : w < 8) (hx : x < 8) (h : Fr (cset g) A I) : Fr (cset g) A (k_pays (k_first (k_take I g) (nI w)) g (nI w) o (nI x)) := fun q k z => by
  rw [kpays_o hw hx z]
  unfold cset at z
  rw [kfirst_o (by omega), ktake_o (by omega) (by omega) (by omega)]
  exact h q k z
