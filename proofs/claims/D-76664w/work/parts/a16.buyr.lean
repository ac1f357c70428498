/-! A BUYER MORE, on both sides -/
theorem isOf_up {J J' : xI_T} {b w : Int32} {nb : Nat} (h8 : nb < 8) (e : J 70 0 = nI nb) (e' : J' 70 0 = nI (nb + 1)) (h : ¬ m_isOf J b w = 0) : ¬ m_isOf J' b w = 0 := by
  have hb : vp_in (J 70 0) 9 := by rw [e]; exact vp_in_nI (by omega) (by decide)
  rcases isOf_1 hb h with ⟨hw, hb0⟩ | ⟨hw, y, hy, hy8, ey⟩
  · have e3 : ¬ ¬ inR w 0 3 = 0 := by rcases hw with rfl | rfl | rfl <;> decide
    unfold m_isOf at h ⊢
    rw [if_neg e3] at h ⊢
    exact h
  · rw [e, ix_n (by omega)] at hy
    have e1 : ¬ m_isB J' (nI y) = 0 := by
      unfold m_isB
      rw [e', show nI (nb + 1) - 1 = nI nb from nI_pred nb]
      unfold inR
      rw [if_neg (by rw [i_lt, nI_toInt (by omega), show (0 : Int32).toInt = 0 from rfl]; omega), if_neg (by rw [i_lt, nI_toInt (by omega), nI_toInt (by omega)]; omega)]
      decide
    have e3 : ¬ inR w 0 3 = 0 := by rcases hw with rfl | rfl | rfl | rfl <;> decide
    unfold m_isOf
    rw [if_pos e3, ey]
    exact e1
theorem newBuyer_1 {J : xI_T} {nb : Nat} {p w q : Int32} (h8 : nb < 8) (e : J 70 0 = nI nb) : m_newBuyer J p w q = up2 (up2 (up2 (up2 J 72 nb p) 71 nb w) 71 (8 + nb) q) 70 0 (nI (nb + 1)) := by
  unfold m_newBuyer
  rw [e, ix_n (by omega), show (8 : Int32) + nI nb = nI (8 + nb) from nI_add 8 nb, ix_n (by omega), nI_1]
theorem newBuyer_p {J : xI_T} {nb : Nat} {p w q : Int32} (h8 : nb < 8) (e : J 70 0 = nI nb) : m_bec (m_newBuyer J 100 w q) (nI nb) 0 p = m_newBuyer J p w q := by
  rw [(bec_1 h8).2.2.2, newBuyer_1 h8 e, newBuyer_1 h8 e]
  funext c s
  by_cases h1 : c = 72 ∧ s = nb
  · rw [h1.1, h1.2, up2_s, up2_i _ _ (by decide), up2_i _ _ (by decide), up2_i _ _ (by decide), up2_s]
  · rw [up2_n _ _ h1]
    by_cases h2 : c = 70 ∧ s = 0
    · rw [h2.1, h2.2, up2_s, up2_s]
    · rw [up2_n _ _ h2, up2_n _ _ h2]
      by_cases h3 : c = 71 ∧ s = 8 + nb
      · rw [h3.1, h3.2, up2_s, up2_s]
      · rw [up2_n _ _ h3, up2_n _ _ h3]
        by_cases h4 : c = 71 ∧ s = nb
        · rw [h4.1, h4.2, up2_s, up2_s]
        · rw [up2_n _ _ h4, up2_n _ _ h4, up2_n _ _ h1, up2_n _ _ h1]
theorem TOP.buyer {n n' : Nat} {Ty Ty' : Nat → xs_T} {I I' : xI_T} {L : xL_T} {F F' : xF_T} {J : xI_T} {M : xL_T} {nb : Nat} {w q : Int32} (h : TOP n Ty I L F J M) (h8 : nb < 8) (e : J 70 0 = nI nb) (h1 : grw n n' Ty Ty') (hn : n < n') (hT : Ty' n = some (.inl 4)) (hI : ∀ c s : Nat, c < n → ¬ (c = 0 ∧ s = 1) → I' c s = I c s) (h01 : I' 0 1 = nI (nb + 1)) (hI0 : I' n 0 = 100 ∧ I' n 1 = w ∧ I' n 2 = q ∧ I' n 3 = 0) (hF : ∀ c s : Nat, c < n → ¬ (c = 1 ∧ s = nb) → F' c s = F c s) (hF1 : F' 1 nb = some n) : TOP n' Ty' I' L F' (m_newBuyer J 100 w q) M := by
  obtain ⟨a1, a2, a3, a4, a5, a6, a7, a8, a9, b1, b2, b3, b4, b5, b6, b7⟩ := h
  have hn3 : 103 ≤ n := a1.1
  have eJ := newBuyer_1 (p := 100) (w := w) (q := q) h8 e
  have ex : ix (J 70 0) = nb := by rw [e]; exact ix_n (by omega)
  have e0 : m_newBuyer J 100 w q 70 0 = nI (nb + 1) := by rw [eJ, up2_s]
  have e0x : ix (m_newBuyer J 100 w q 70 0) = nb + 1 := by rw [e0]; exact ix_n (by omega)
  have hJ : ∀ c s : Nat, ¬ (c = 70 ∧ s = 0) → ¬ (c = 72 ∧ s = nb) → ¬ (c = 71 ∧ (s = nb ∨ s = 8 + nb)) → m_newBuyer J 100 w q c s = J c s := fun c s z1 z2 z3 => by rw [eJ, up2_n _ _ z1, up2_n _ _ (by omega), up2_n _ _ (by omega), up2_n _ _ z2]
  have k72 : m_newBuyer J 100 w q 72 nb = 100 := by rw [eJ, up2_i _ _ (by decide), up2_i _ _ (by decide), up2_i _ _ (by decide), up2_s]
  have k71 : m_newBuyer J 100 w q 71 nb = w := by rw [eJ, up2_i _ _ (by decide), up2_k _ _ (by omega), up2_s]
  have k71b : m_newBuyer J 100 w q 71 (8 + nb) = q := by rw [eJ, up2_i _ _ (by decide), up2_s]
  have k71c : m_newBuyer J 100 w q 71 (16 + nb) = 0 := by rw [hJ _ _ (by omega) (by omega) (by omega)]; exact (b7 nb (by omega) h8).2
  generalize m_newBuyer J 100 w q = K at e0 e0x hJ k72 k71 k71b k71c
  have id : ∀ q k : Nat, 103 ≤ q → q < n → I' q k = I q k := fun q k z1 z2 => hI q k z2 (by omega)
  have df : dynF n F F' := fun q k z1 z2 => hF q k z2 (by omega)
  have z6 := ix_7 a6.1.2.2.2.1
  refine ⟨a1.w h1 (fun q k z z1 _ _ _ _ => hF q k (by omega) (by omega)), ?_, ?_, ?_, a5.w h1 (dynI.of id) df (hF 0 10 (by omega) (by omega)) (fun q k _ => hJ q k (by omega) (by omega) (by omega)), ?_, a7.w (fun k => hI 23 k (by omega) (by omega)) (fun k => hJ 101 k (by omega) (by omega) (by omega)), ?_, ?_, b1.w (fun q k _ => hI q k (by omega) (by omega)) (fun q k _ => hJ q k (by omega) (by omega) (by omega)), b2.w (fun k _ _ => hI 0 k (by omega) (by omega)) (fun k => hJ 84 k (by omega) (by omega) (by omega)), b3.w (fun q k _ => hI q k (by omega) (by omega)) (fun q k _ => hJ q k (by omega) (by omega) (by omega)) (by rw [e0x, ex]; omega), b4.w h1 (dynI.of id) df (hI 0 42 (by omega) (by omega)) (fun k => hF 32 k (by omega) (by omega)) (fun q k _ => hJ q k (by omega) (by omega) (by omega)), b5.w (fun q k _ => hI q k (by omega) (by omega)) (fun q k _ => hJ q k (by omega) (by omega) (by omega)), b6.w h1 (dynA.of id (fun _ _ _ _ => rfl)) df ⟨fun k => hF 33 k (by omega) (by omega), fun k q z => by rw [hF 32 k (by omega) (by omega)]; exact z⟩ (fun q k _ => hJ q k (by omega) (by omega) (by omega)) (fun _ => rfl) (by rw [hJ 70 31 (by omega) (by omega) (by omega)]; exact Nat.le_refl _), ?_⟩
  · unfold NUM
    rw [h01, e0, hI 0 2 (by omega) (by omega), hI 0 3 (by omega) (by omega), hI 0 4 (by omega) (by omega), hJ 70 2 (by omega) (by omega) (by omega), hJ 70 3 (by omega) (by omega) (by omega), hJ 72 8 (by omega) (by omega) (by omega)]
    exact ⟨rfl, a2.2⟩
  · obtain ⟨c1, c2, c3, c4⟩ := a3
    obtain ⟨z, hz, ez⟩ := vp_in_of a6.1.2.2.2.1 (by decide)
    have ezx : ix (J 72 18) = z := by rw [ez]; exact ix_n (by omega)
    refine ⟨?_, ?_, fun k hk => ?_, fun k hk => ?_⟩
    · rw [hI 6 5 (by omega) (by omega), hJ 72 18 (by omega) (by omega) (by omega)]; exact c1
    · rw [hI 6 6 (by omega) (by omega), hJ 72 9 (by omega) (by omega) (by omega)]; exact c2
    · rw [e0x] at hk
      rw [hI 9 k (by omega) (by omega), hJ 72 _ (by omega) (by omega) (by omega)]
      by_cases hkn : k = nb
      · rw [hkn]; exact (b7 nb (by omega) h8).1
      · exact c3 k (by omega)
    · rw [hJ 72 18 (by omega) (by omega) (by omega)] at hk
      obtain ⟨d1, d2, w9, d3, d4⟩ := c4 k hk
      rw [hI 10 k (by omega) (by omega), hI 11 k (by omega) (by omega), hJ 72 _ (by omega) (by omega) (by omega), hJ 72 _ (by omega) (by omega) (by omega), e0x]
      exact ⟨d1, d2, w9, by omega, d4⟩
  · intro b hb
    rw [e0x] at hb
    by_cases hbn : b = nb
    · subst hbn
      refine ⟨n, hF1, ⟨hn3, hn⟩, hT, by rw [k72]; exact hI0.1, by rw [k71]; exact hI0.2.1, by rw [k71b]; exact hI0.2.2.1, by rw [k71c]; exact hI0.2.2.2, Or.inl k71c⟩
    · obtain ⟨q9, c1, c2, c3, c4, c5, c6, c7, c8⟩ := a4 b (by omega)
      refine ⟨q9, (hF 1 b (by omega) (by omega)).trans c1, ⟨c2.1, Nat.lt_of_lt_of_le c2.2 h1.1⟩, (h1.2 q9 c2.2).trans c3, ?_, ?_, ?_, ?_, ?_⟩
      · rw [id q9 0 c2.1 c2.2, hJ 72 b (by omega) (by omega) (by omega)]; exact c4
      · rw [id q9 1 c2.1 c2.2, hJ 71 b (by omega) (by omega) (by omega)]; exact c5
      · rw [id q9 2 c2.1 c2.2, hJ 71 _ (by omega) (by omega) (by omega)]; exact c6
      · rw [id q9 3 c2.1 c2.2, hJ 71 _ (by omega) (by omega) (by omega)]; exact c7
      · rw [hJ 71 _ (by omega) (by omega) (by omega)]; exact c8
  · refine ⟨⟨by rw [e0]; exact vp_in_nI (by omega) (by decide), by rw [hJ 70 2 (by omega) (by omega) (by omega)]; exact a6.1.2.1, by rw [hJ 70 2 (by omega) (by omega) (by omega)]; exact a6.1.2.2.1, by rw [hJ 72 18 (by omega) (by omega) (by omega)]; exact a6.1.2.2.2.1, fun j z1 z2 => by rw [hJ 72 j (by omega) (by omega) (by omega)]; exact a6.1.2.2.2.2 j z1 z2⟩, a6.2.1.mv (hJ 70 8 (by omega) (by omega) (by omega)) fun q j _ _ => hJ q j (by omega) (by omega) (by omega), by rw [hJ 72 8 (by omega) (by omega) (by omega)]; exact a6.2.2⟩
  · intro a b ha hb eab
    rw [e0x] at ha hb
    have old : ∀ x : Nat, x < nb → ∃ q9 : Nat, F' 1 x = some q9 ∧ q9 < n ∧ F 1 x = F' 1 x := fun x hx => by
      obtain ⟨q9, c1, c2, -⟩ := a4 x (by omega)
      have y := hF 1 x (by omega) (by omega)
      exact ⟨q9, y.trans c1, c2.2, y.symm⟩
    by_cases ha2 : a = nb
    · by_cases hb2 : b = nb
      · rw [ha2, hb2]
      · exfalso
        obtain ⟨q9, c1, c2, -⟩ := old b (by omega)
        rw [ha2, hF1, c1] at eab
        have := Option.some.inj eab
        omega
    · obtain ⟨q9, c1, c2, c3⟩ := old a (by omega)
      by_cases hb2 : b = nb
      · exfalso
        rw [hb2, hF1, c1] at eab
        have := Option.some.inj eab
        omega
      · obtain ⟨q8, d1, d2, d3⟩ := old b (by omega)
        exact a8 a b (by omega) (by omega) (by rw [c3, d3, eab])
  · obtain ⟨d, u, ⟨c1, c2, c3, c4, c5⟩, hc, hw⟩ := a9
    have h87 : ∀ k : Nat, K 87 k = J 87 k := fun k => hJ 87 k (by omega) (by omega) (by omega)
    refine ⟨d, u, ⟨c1, by rw [hJ 70 29 (by omega) (by omega) (by omega)]; exact c2, by rw [hJ 70 28 (by omega) (by omega) (by omega)]; exact c3, by rw [hI 0 6 (by omega) (by omega)]; exact c4, by rw [hI 0 7 (by omega) (by omega)]; exact c5⟩, fun k hk => ?_, fun k hk => by rw [h87, h87]; exact hw k hk⟩
    obtain ⟨q9, d1, d2, d3, d4, d5, d6, d7, d8⟩ := hc k hk
    refine ⟨q9, (hF 2 k (by omega) (by omega)).trans d1, ⟨d2.1, Nat.lt_of_lt_of_le d2.2 h1.1⟩, (h1.2 q9 d2.2).trans d3, by rw [id q9 _ d2.1 d2.2, h87]; exact d4, by rw [id q9 _ d2.1 d2.2, h87]; exact d5, by rw [id q9 _ d2.1 d2.2, h87]; exact d6, by rw [id q9 _ d2.1 d2.2, h87]; exact d7, ?_⟩
    unfold chOk
    rw [h87, h87, h87, h87]
    exact ⟨isOf_up h8 e e0 d8.1, d8.2⟩
  · intro b z1 z2
    rw [e0x] at z1
    rw [hI 9 b (by omega) (by omega), hJ 72 _ (by omega) (by omega) (by omega), hJ 71 _ (by omega) (by omega) (by omega)]
    exact b7 b (by omega) z2
def pA (G : xG_T) (n : Nat) (Ty : Nat → xs_T) (F : xF_T) (nb : Nat) (J : xI_T) (M : xL_T) : xP_T := fun v n' Ty' I' L' F' => v = some (.ref (xb G + n)) ∧ grw n n' Ty Ty' ∧ n < n' ∧ Ty' n = some (.inl 4) ∧ (F' 1 nb = some n ∧ ∀ c s : Nat, c < n → c ≠ 1 → F' c s = F c s) ∧ TOP n' Ty' I' L' F' J M
section XU
variable {Θ : xT_T} {l : Launch} {cls : String} {cc : ByteArray} {nL k mc ms : Nat} {ret : Option FieldType} {nm : String} {G : xG_T} {own : Nat → Prop} {post : xP_T} {ce sl n : Nat} {Ty : Nat → xs_T} {I : xI_T} {L : xL_T} {F : xF_T} {pc : Nat} {lv : List (Option Value)} {st : List Value}
theorem x_callVPa (h : XOk Θ l cls cc nL k mc ms ret nm G own post) {i ci : Nat} {y : MethodName} {cy : ByteArray} {nLy k' mc' ms' na idx : Nat} {rty : Option FieldType} {nb : Nat} {J' : xI_T} {M' : xL_T} {As rest : List Value} (hM : Cg l k' mc' ms' y cy nLy rty G own (.ref (xb G + i) :: As) n Ty I L F (pA G n Ty F nb J' M')) (g : xcv cls idx ci y cy nLy rty na) (hi : i < n) (ht : Ty i = some (.inl ci)) (d : decode cc pc = .ok (.invokevirtual idx, 3)) (hk : k' < k ∧ nLy ≤ 45) (hce : ce + mc' ≤ mc ∧ sl + ms' ≤ ms) (hna : As.length = na) (hrest : (rest.map fun v => v.category).sum ≤ 8)
    (kk : ∀ (n' : Nat) (Ty' : Nat → xs_T) (I' : xI_T) (L' : xL_T) (F' : xF_T), grw n n' Ty Ty' → n < n' → Ty' n = some (.inl 4) → (F' 1 nb = some n ∧ ∀ c s : Nat, c < n → c ≠ 1 → F' c s = F c s) → TOP n' Ty' I' L' F' J' M' → X Θ (ce + mc') (sl + ms') n' Ty' I' L' F' (pc + 3) lv (.ref (xb G + n) :: rest)) : X Θ ce sl n Ty I L F pc lv (As.reverse ++ .ref (xb G + i) :: rest) := by
  refine x_callV h hM g hi ht d hk hce hna hrest ?_
  rintro _ n' Ty' J L' F' ⟨rfl, a, b, c, d, e⟩
  exact kk n' Ty' J L' F' a b c d e
end XU
