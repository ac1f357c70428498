/-! A THING SET, on both sides -/
/-- the numbers and buyers of both sides anew -/
theorem TOP.set9 {n : Nat} {Ty : Nat → xs_T} {I I' : xI_T} {L : xL_T} {F : xF_T} {J J' : xI_T} {M : xL_T} (h : TOP n Ty I L F J M) (hI : ∀ q k : Nat, q < 103 → ¬ (q = 0 ∧ 2 ≤ k ∧ k ≤ 4) → I' q k = I q k) (hd : ∀ q k : Nat, 103 ≤ q → q < n → ¬ Ty q = some (.inl 4) → I' q k = I q k) (hJ : ∀ q k : Nat, ¬ ((q = 70 ∧ (k = 2 ∨ k = 3)) ∨ (q = 72 ∧ k ≤ 8) ∨ q = 71) → J' q k = J q k) (hN : NUM I' J') (hB : BUY n Ty I' F J') (hW : WW J') (hR : FRE I' J') : TOP n Ty I' L F J' M := by
  obtain ⟨a1, a2, a3, a4, a5, a6, a7, a8, a9, b1, b2, b3, b4, b5, b6, b7⟩ := h
  have dI : dynI n Ty I I' := fun q k c h1 h2 h3 h4 => hd q k h1 h2 (fun z => by rw [h3] at z; injection z with e; injection e with e2; exact h4 e2)
  have dA : dynA n Ty I I' L L := fun q k t h1 h2 h3 => ⟨hd q k h1 h2 (fun z => by rw [h3] at z; injection z with e; cases e), rfl⟩
  exact ⟨a1, hN, a3.w a6 (fun q k _ => hI q k (by omega) (by omega)) (fun q k _ => hJ q k (by omega)), hB, a5.w grw.rf dI dynF.rf rfl (fun q k _ => hJ q k (by omega)), hW, a7.w (fun k => hI 23 k (by decide) (by omega)) (fun k => hJ 101 k (by omega)), a8.w (fun _ _ => rfl) (hJ 70 0 (by omega)), a9.w grw.rf dI ⟨hI 0 6 (by decide) (by omega), hI 0 7 (by decide) (by omega)⟩ (fun _ => rfl) (fun q k _ => hJ q k (by omega)), b1.w (fun q k _ => hI q k (by omega) (by omega)) (fun q k _ => hJ q k (by omega)), b2.w (fun k _ _ => hI 0 k (by decide) (by omega)) (fun k => hJ 84 k (by omega)), b3.w (fun q k _ => hI q k (by omega) (by omega)) (fun q k _ => hJ q k (by omega)) (by rw [hJ 70 0 (by omega)]; exact Nat.le_refl _), b4.w grw.rf dI dynF.rf (hI 0 42 (by decide) (by omega)) (fun _ => rfl) (fun q k _ => hJ q k (by omega)), b5.w (fun q k _ => hI q k (by omega) (by omega)) (fun q k _ => hJ q k (by omega)), b6.w grw.rf dA dynF.rf ⟨fun _ => rfl, fun _ _ z => z⟩ (fun q k _ => hJ q k (by omega)) (fun _ => rfl) (by rw [hJ 70 31 (by omega)]; exact Nat.le_refl _), hR⟩
theorem fit_W {w v : Int32} (h : ¬ m_fit w v = 0) : fitW w v := by
  unfold m_fit at h
  refine ⟨fun hw => ?_, fun hw => ?_, fun hw => ?_⟩
  · have h2 : ¬ inR v 0 1 = 0 := by
      rcases hw with rfl | rfl
      · exact h
      · exact h
    obtain ⟨t, ht, e⟩ := vp_in_of (xinR (N := 2) h2 (by decide)) (by decide)
    rw [e]
    have z : t = 0 ∨ t = 1 := by omega
    rcases z with rfl | rfl
    · exact Or.inl rfl
    · exact Or.inr rfl
  · subst hw
    exact inR_nat 1 5 (show ¬ inR v 1 5 = 0 from h) rfl rfl (by decide)
  · subst hw
    exact xinR (show ¬ inR v 0 99 = 0 from h) (by decide)
/-- what is set is set on both sides -/
theorem TOP.set {n : Nat} {Ty : Nat → xs_T} {I : xI_T} {L : xL_T} {F : xF_T} {J : xI_T} {M : xL_T} {b w v : Int32} {q : Nat} (h : TOP n Ty I L F J M) (ho : ¬ m_isOf J b w = 0) (hv : fitW w v) (hq : isQ n Ty F b w q) : TOP n Ty (kset I w q v) L F (m_bec J b w v) M := by
  have ⟨tC, tNU, tNO, tBY, tKL, tWW, tRB, tBU, tCH, tTA, tLE, tIM, tBO, tTR, tSH, tFR⟩ := h
  obtain ⟨nb, hnb, enb, enx⟩ := BUY.nb tWW
  rcases isOf_1 tWW.1.1 ho with ⟨hw | hw | hw, hb0⟩ | ⟨hw, y, hy, hy8, ey⟩
  · subst hw
    have e1 : kset I 4 q v = up2 I 0 2 v := rfl
    have e2 : m_bec J b 4 v = up2 J 70 2 v := rfl
    rw [e1, e2]
    obtain ⟨t, t1, t5, e⟩ := hv.2.1 rfl
    refine h.set9 (fun a k _ z => up2_n _ _ (by omega)) (fun a k z1 z2 _ => up2_i _ _ (by omega)) (fun a k z => up2_n _ _ (by omega)) ?_ (tBY.w tWW grw.rf (dynB.of fun a k z1 z2 => up2_i _ _ (by omega)) (fun _ _ => rfl) (fun a k _ => up2_n _ _ (by omega))) ?_ (tFR.w (fun k => up2_i _ _ (by decide)) (fun a k _ => up2_n _ _ (by omega)))
    · unfold NUM
      rw [up2_s, up2_s, up2_k _ _ (by decide), up2_k _ _ (by decide), up2_i _ _ (show (72 : Nat) ≠ 70 by decide), up2_k _ _ (show (4 : Nat) ≠ 2 by decide), up2_k _ _ (show (3 : Nat) ≠ 2 by decide), up2_k _ _ (show (3 : Nat) ≠ 2 by decide)]
      exact ⟨tNU.1, rfl, tNU.2.2.1, tNU.2.2.2⟩
    · refine ⟨⟨?_, ?_, ?_, ?_, ?_⟩, tWW.2.1.mv (up2_k _ _ (by decide)) fun a j _ _ => up2_i _ _ (by omega), by rw [up2_i _ _ (by decide)]; exact tWW.2.2⟩
      · rw [up2_k _ _ (by decide)]; exact tWW.1.1
      · rw [up2_s, e]; exact vp_in_nI (by omega) (by decide)
      · rw [up2_s, e]; intro z
        have := congrArg ix z
        rw [ix_n (by omega), show ix (0 : Int32) = 0 from rfl] at this
        omega
      · rw [up2_i _ _ (by decide)]; exact tWW.1.2.2.2.1
      · intro k k1 k2
        rw [up2_i _ _ (by decide)]; exact tWW.1.2.2.2.2 k k1 k2
  · subst hw
    have e1 : kset I 5 q v = up2 I 0 3 v := rfl
    have e2 : m_bec J b 5 v = up2 J 70 3 v := rfl
    rw [e1, e2]
    have hv1 := hv.1 (Or.inr rfl)
    refine h.set9 (fun a k _ z => up2_n _ _ (by omega)) (fun a k z1 z2 _ => up2_i _ _ (by omega)) (fun a k z => up2_n _ _ (by omega)) ?_ (tBY.w tWW grw.rf (dynB.of fun a k z1 z2 => up2_i _ _ (by omega)) (fun _ _ => rfl) (fun a k _ => up2_n _ _ (by omega))) (tWW.w (fun a k _ => up2_n _ _ (by omega))) (tFR.w (fun k => up2_i _ _ (by decide)) (fun a k _ => up2_n _ _ (by omega)))
    unfold NUM
    rw [up2_s, up2_s, up2_k _ _ (by decide), up2_k _ _ (by decide), up2_i _ _ (show (72 : Nat) ≠ 70 by decide), up2_k _ _ (show (4 : Nat) ≠ 3 by decide), up2_k _ _ (show (2 : Nat) ≠ 3 by decide), up2_k _ _ (show (2 : Nat) ≠ 3 by decide)]
    exact ⟨tNU.1, tNU.2.1, tNU.2.2.1, rfl, hv1⟩
  · subst hw
    have e1 : kset I 6 q v = up2 I 0 4 v := rfl
    have e2 : m_bec J b 6 v = up2 J 72 8 v := rfl
    rw [e1, e2]
    have hv1 : vp_in v 100 := hv.2.2 rfl
    refine h.set9 (fun a k _ z => up2_n _ _ (by omega)) (fun a k z1 z2 _ => up2_i _ _ (by omega)) (fun a k z => up2_n _ _ (by omega)) ?_ (tBY.w tWW grw.rf (dynB.of fun a k z1 z2 => up2_i _ _ (by omega)) (fun _ _ => rfl) (fun a k _ => up2_n _ _ (by omega))) ?_ (tFR.w (fun k => up2_i _ _ (by decide)) (fun a k _ => up2_n _ _ (by omega)))
    · unfold NUM
      rw [up2_s, up2_s, up2_k _ _ (show (1 : Nat) ≠ 4 by decide), up2_k _ _ (show (2 : Nat) ≠ 4 by decide), up2_k _ _ (show (3 : Nat) ≠ 4 by decide), up2_i _ _ (show (70 : Nat) ≠ 72 by decide), up2_i _ _ (show (70 : Nat) ≠ 72 by decide), up2_i _ _ (show (70 : Nat) ≠ 72 by decide)]
      exact ⟨tNU.1, tNU.2.1, rfl, tNU.2.2.2⟩
    · refine ⟨tWW.1.mv (up2_i _ _ (by decide)) (up2_i _ _ (by decide)) fun j _ _ => up2_k _ _ (by omega), tWW.2.1.mv (up2_i _ _ (by decide)) fun a j _ _ => up2_i _ _ (by omega), by rw [up2_s]; exact hv1⟩
  · obtain ⟨y2, hy2, ey2, hF, ⟨hq1, hqn⟩, hqT⟩ := hq hw
    have hyy : y2 = y := by
      have := congrArg ix (ey2.symm.trans ey)
      rwa [ix_n (by omega), ix_n (by omega)] at this
    subst hyy
    obtain ⟨g1, g2, g3, g0⟩ := bec_1 (J := J) (v := v) hy8
    -- the cells
    have hcell : ∀ (k a j : Nat), k < 4 → (kset I w q v = up2 I q k v ∧ m_bec J b w v = up2 J a j v) → ((k = 0 ∧ a = 72 ∧ j = y2) ∨ (k = 1 ∧ a = 71 ∧ j = y2) ∨ (k = 2 ∧ a = 71 ∧ j = 8 + y2) ∨ (k = 3 ∧ a = 71 ∧ j = 16 + y2 ∧ (v = 0 ∨ v = 1))) → TOP n Ty (kset I w q v) L F (m_bec J b w v) M := by
      rintro k a j hk ⟨e1, e2⟩ hc
      rw [e1, e2]
      have hqo : ∀ c s : Nat, c ≠ q → up2 I q k v c s = I c s := fun c s z => up2_i _ _ z
      have hjo : ∀ c s : Nat, ¬ (c = 71 ∨ (c = 72 ∧ s < 8)) → up2 J a j v c s = J c s := fun c s z => up2_n _ _ (by omega)
      refine h.set9 (fun c s z _ => hqo c s (by omega)) (fun c s z1 z2 z => hqo c s (fun e => z (by rw [e]; exact hqT))) (fun c s z => hjo c s (by omega)) (tNU.w (fun s _ _ => hqo 0 s (by omega)) (fun c s _ => hjo c s (by omega))) ?_ (tWW.w (fun c s _ => hjo c s (by omega))) ?_
      · intro o hob
        rw [hjo 70 0 (by omega)] at hob
        obtain ⟨q9, c1, c2, c3, c4, c5, c6, c7, c8⟩ := tBY o hob
        refine ⟨q9, c1, c2, c3, ?_⟩
        by_cases ho9 : o = y2
        · subst ho9
          have e9 : q9 = q := Option.some.inj (c1.symm.trans hF)
          subst e9
          rcases hc with ⟨rfl, rfl, hj⟩ | ⟨rfl, rfl, hj⟩ | ⟨rfl, rfl, hj⟩ | ⟨rfl, rfl, hj, hv1⟩
          · rw [hj, up2_s, up2_s, up2_k _ _ (show (1 : Nat) ≠ 0 by decide), up2_k _ _ (show (2 : Nat) ≠ 0 by decide), up2_k _ _ (show (3 : Nat) ≠ 0 by decide), up2_i _ _ (show (71 : Nat) ≠ 72 by decide), up2_i _ _ (show (71 : Nat) ≠ 72 by decide), up2_i _ _ (show (71 : Nat) ≠ 72 by decide)]
            exact ⟨rfl, c5, c6, c7, c8⟩
          · rw [hj, up2_s, up2_s, up2_k _ _ (show (0 : Nat) ≠ 1 by decide), up2_k _ _ (show (2 : Nat) ≠ 1 by decide), up2_k _ _ (show (3 : Nat) ≠ 1 by decide), up2_i _ _ (show (72 : Nat) ≠ 71 by decide), up2_k _ _ (show 8 + o ≠ o by omega), up2_k _ _ (show 16 + o ≠ o by omega)]
            exact ⟨c4, rfl, c6, c7, c8⟩
          · rw [hj, up2_s, up2_s, up2_k _ _ (show (0 : Nat) ≠ 2 by decide), up2_k _ _ (show (1 : Nat) ≠ 2 by decide), up2_k _ _ (show (3 : Nat) ≠ 2 by decide), up2_i _ _ (show (72 : Nat) ≠ 71 by decide), up2_k _ _ (show o ≠ 8 + o by omega), up2_k _ _ (show 16 + o ≠ 8 + o by omega)]
            exact ⟨c4, c5, rfl, c7, c8⟩
          · rw [hj, up2_s, up2_s, up2_k _ _ (show (0 : Nat) ≠ 3 by decide), up2_k _ _ (show (1 : Nat) ≠ 3 by decide), up2_k _ _ (show (2 : Nat) ≠ 3 by decide), up2_i _ _ (show (72 : Nat) ≠ 71 by decide), up2_k _ _ (show o ≠ 16 + o by omega), up2_k _ _ (show 8 + o ≠ 16 + o by omega)]
            exact ⟨c4, c5, c6, rfl, hv1⟩
        · have n9 : q9 ≠ q := fun e => ho9 (tBU o y2 hob hy (by rw [c1, hF, e]))
          rw [hqo _ _ n9, hqo _ _ n9, hqo _ _ n9, hqo _ _ n9, up2_n _ _ (show ¬ (72 = a ∧ o = j) by omega), up2_n _ _ (show ¬ (71 = a ∧ o = j) by omega), up2_n _ _ (show ¬ (71 = a ∧ 8 + o = j) by omega), up2_n _ _ (show ¬ (71 = a ∧ 16 + o = j) by omega)]
          exact ⟨c4, c5, c6, c7, c8⟩
      · intro o o1 o2
        rw [hjo 70 0 (by omega)] at o1
        rw [hqo 9 o (by omega), hjo 72 _ (by omega), up2_n _ _ (show ¬ (71 = a ∧ 16 + o = j) by omega)]
        exact tFR o o1 o2
    rcases hw with rfl | rfl | rfl | rfl
    · exact hcell 0 72 y2 (by decide) ⟨rfl, by rw [ey]; exact g0⟩ (by omega)
    · exact hcell 1 71 y2 (by decide) ⟨rfl, by rw [ey]; exact g1⟩ (by omega)
    · exact hcell 2 71 (8 + y2) (by decide) ⟨rfl, by rw [ey]; exact g2⟩ (by omega)
    · exact hcell 3 71 (16 + y2) (by decide) ⟨rfl, by rw [ey]; exact g3⟩ (Or.inr (Or.inr (Or.inr ⟨rfl, rfl, rfl, hv.1 (Or.inl rfl)⟩)))
/-- the cell that a change is of -/
theorem TOP.cell {n : Nat} {Ty : Nat → xs_T} {I : xI_T} {L : xL_T} {F : xF_T} {J : xI_T} {M : xL_T} {b w : Int32} (h : TOP n Ty I L F J M) (ho : ¬ m_isOf J b w = 0) : ∃ q : Nat, 70 ≤ q ∧ q < n ∧ isQ n Ty F b w q := by
  have ⟨tC, tNU, tNO, tBY, tKL, tWW, tRB, tBU, tCH, tTA, tLE, tIM, tBO, tTR, tSH, tFR⟩ := h
  rcases isOf_1 tWW.1.1 ho with ⟨hw, -⟩ | ⟨hw, y, hy, hy8, ey⟩
  · refine ⟨70, Nat.le_refl _, Nat.lt_of_lt_of_le (by decide) tC.1, fun z => ?_⟩
    exfalso
    rcases hw with rfl | rfl | rfl <;> exact absurd z (by decide)
  · obtain ⟨q, c1, c2, c3, -⟩ := tBY y hy
    exact ⟨q, by omega, c2.2, fun _ => ⟨y, hy8, ey, c1, c2, c3⟩⟩
theorem kset_o {I : xI_T} {w v : Int32} {q c s : Nat} (h : c ≠ q) (h0 : ¬ (c = 0 ∧ 2 ≤ s ∧ s ≤ 4)) : kset I w q v c s = I c s := by
  unfold kset
  repeat' split
  all_goals exact up2_n _ _ (by omega)
theorem kset_c {I I' : xI_T} {w v : Int32} {q c s : Nat} (h : I' c s = I c s) : kset I' w q v c s = kset I w q v c s := by
  unfold kset
  repeat' split
  all_goals simp [up2_ap, h]
theorem bec_87 {J : xI_T} {b w v : Int32} {c s : Nat} (h : ¬ (c = 71 ∨ c = 72 ∨ (c = 70 ∧ (s = 2 ∨ s = 3)))) : m_bec J b w v c s = J c s := by
  unfold m_bec
  repeat' split
  all_goals exact up2_n _ _ (by omega)
/-- what is there is fit -/
theorem TOP.fit {n : Nat} {Ty : Nat → xs_T} {I : xI_T} {L : xL_T} {F : xF_T} {J : xI_T} {M : xL_T} {b w : Int32} (h : TOP n Ty I L F J M) (ho : ¬ m_isOf J b w = 0) : fitW w (m_get J b w) := by
  have ⟨tC, tNU, tNO, tBY, tKL, tWW, tRB, tBU, tCH, tTA, tLE, tIM, tBO, tTR, tSH, tFR⟩ := h
  refine ⟨fun hw => ?_, fun hw => ?_, fun hw => ?_⟩
  · rcases hw with rfl | rfl
    · obtain ⟨y, hy, hy8, ey⟩ := isOf_b tWW.1.1 ho (Or.inr (Or.inr (Or.inr rfl)))
      obtain ⟨q, c1, c2, c3, c4, c5, c6, c7, c8⟩ := tBY y hy
      rw [ey, (get_1 hy8).2.2.1]
      exact c8
    · exact tNU.2.2.2.2
  · subst hw
    obtain ⟨t, t6, e⟩ := vp_in_of tWW.1.2.1 (by decide)
    refine ⟨t, ?_, by omega, e⟩
    rcases Nat.eq_zero_or_pos t with z | z
    · exact absurd (show J 70 2 = 0 by rw [e, z]; rfl) tWW.1.2.2.1
    · exact z
  · subst hw
    exact tWW.2.2
/-- changes anew -/
theorem TOP.ch9 {n n' : Nat} {Ty Ty' : Nat → xs_T} {I I' : xI_T} {L : xL_T} {F F' : xF_T} {J J' : xI_T} {M : xL_T} (h : TOP n Ty I L F J M) (h1 : grw n n' Ty Ty') (hI : ∀ c s : Nat, c < n → ¬ (c = 0 ∧ (s = 6 ∨ s = 7)) → I' c s = I c s) (hF : ∀ c s : Nat, c < n → c ≠ 2 → F' c s = F c s) (hJ : ∀ q k : Nat, ¬ (q = 87 ∨ (q = 70 ∧ (k = 28 ∨ k = 29))) → J' q k = J q k) (hC : TCh n' Ty' I' F' J') : TOP n' Ty' I' L F' J' M := by
  obtain ⟨a1, a2, a3, a4, a5, a6, a7, a8, a9, b1, b2, b3, b4, b5, b6, b7⟩ := h
  have hn : 103 ≤ n := a1.1
  have id : ∀ q k : Nat, 103 ≤ q → q < n → I' q k = I q k := fun q k z1 z2 => hI q k z2 (by omega)
  have df : dynF n F F' := fun q k z1 z2 => hF q k z2 (by omega)
  exact ⟨a1.w h1 (fun q k z _ z2 _ _ _ => hF q k (by omega) z2), a2.w (fun k _ _ => hI 0 k (by omega) (by omega)) (fun q k _ => hJ q k (by omega)), a3.w a6 (fun q k _ => hI q k (by omega) (by omega)) (fun q k _ => hJ q k (by omega)), a4.w a6 h1 (dynB.of id) (fun k _ => hF 1 k (by omega) (by decide)) (fun q k _ => hJ q k (by omega)), a5.w h1 (dynI.of id) df (hF 0 10 (by omega) (by decide)) (fun q k _ => hJ q k (by omega)), a6.w (fun q k _ => hJ q k (by omega)), a7.w (fun k => hI 23 k (by omega) (by omega)) (fun k => hJ 101 k (by omega)), a8.w (fun k _ => hF 1 k (by omega) (by decide)) (hJ 70 0 (by omega)), hC, b1.w (fun q k _ => hI q k (by omega) (by omega)) (fun q k _ => hJ q k (by omega)), b2.w (fun k _ _ => hI 0 k (by omega) (by omega)) (fun k => hJ 84 k (by omega)), b3.w (fun q k _ => hI q k (by omega) (by omega)) (fun q k _ => hJ q k (by omega)) (by rw [hJ 70 0 (by omega)]; exact Nat.le_refl _), b4.w h1 (dynI.of id) df (hI 0 42 (by omega) (by omega)) (fun k => hF 32 k (by omega) (by decide)) (fun q k _ => hJ q k (by omega)), b5.w (fun q k _ => hI q k (by omega) (by omega)) (fun q k _ => hJ q k (by omega)), b6.w h1 (dynA.of id (fun _ _ _ _ => rfl)) df ⟨fun k => hF 33 k (by omega) (by decide), fun k q z => by rw [hF 32 k (by omega) (by decide)]; exact z⟩ (fun q k _ => hJ q k (by omega)) (fun _ => rfl) (by rw [hJ 70 31 (by omega)]; exact Nat.le_refl _), b7.w (fun k => hI 9 k (by omega) (by omega)) (fun q k _ => hJ q k (by omega))⟩
/-- the place of a change -/
theorem ix_4 {k j : Nat} (hk : k < 40) (hj : j < 4) : ix (4 * nI k + nI j) = 4 * k + j := by
  rw [show (4 : Int32) = nI 4 from rfl, pk_mul, nI_add, ix_n (by omega)]
theorem ix_40 {k : Nat} (hk : k < 40) : ix (4 * nI k) = 4 * k := by
  rw [show (4 : Int32) = nI 4 from rfl, pk_mul, ix_n (by omega)]
/-- a change noted, on both sides -/
theorem TCh.note {n n' : Nat} {Ty Ty' : Nat → xs_T} {I I' : xI_T} {F F' : xF_T} {J : xI_T} {d e : Nat} {b w x v : Int32} (h : TCh n Ty I F J) (hb : vp_in (J 70 0) 9) (h1 : grw n n' Ty Ty') (hde : (e = 0 ∧ J 70 29 = nI d ∧ d < 40) ∨ (e = 1 ∧ d = 39 ∧ J 70 29 = nI 40)) (hI : ∀ c s : Nat, 103 ≤ c → c < n → Ty c = some (.inl 5) → I' c s = I c s) (h6 : I' 0 6 = nI (d + 1)) (h7 : I' 0 7 = 0) (hF : ∀ k : Nat, k < d → F' 2 k = F 2 (k + e)) {q : Nat} (hq : F' 2 d = some q ∧ (103 ≤ q ∧ q < n') ∧ Ty' q = some (.inl 5)) (hQ : I' q 0 = w ∧ I' q 1 = b ∧ I' q 2 = x ∧ I' q 3 = v) (ho : ¬ m_isOf J b w = 0) (f1 : fitW w x) (f2 : fitW w v) : TCh n' Ty' I' F' (m_note (m_shf J) b w x v) := by
  obtain ⟨d0, u0, ⟨a1, a2, a3, a4, a5⟩, hc, hw⟩ := h
  have hd40 : d < 40 := by omega
  have hs29 : m_shf J 70 29 = nI d := by
    unfold m_shf
    rcases hde with ⟨e0, e1, e2⟩ | ⟨e0, e1, e2⟩
    · rw [if_neg (by rw [e1]; intro z; have := congrArg ix z; rw [ix_n (by omega), show ix (40 : Int32) = 40 from rfl] at this; omega)]
      exact e1
    · rw [if_pos (by rw [e2]; rfl), up2_s, e2, e1]
      rfl
  have hs0 : m_shf J 70 0 = J 70 0 := by
    unfold m_shf
    split
    · rw [up2_k _ _ (by decide), cpy2_ap, if_neg (by omega)]
    · rfl
  have hs87 : ∀ k : Nat, k < 4 * d → m_shf J 87 k = J 87 (k + 4 * e) := fun k hk => by
    unfold m_shf
    rcases hde with ⟨e0, e1, e2⟩ | ⟨e0, e1, e2⟩
    · rw [if_neg (by rw [e1]; intro z; have := congrArg ix z; rw [ix_n (by omega), show ix (40 : Int32) = 40 from rfl] at this; omega), e0]
      rfl
    · rw [if_pos (by rw [e2]; rfl), up2_i _ _ (by decide), cpy2_ap, if_pos ⟨rfl, Nat.zero_le _, by omega⟩, e0]
      congr 1
      omega
  have hs88 : ∀ k : Nat, 4 * d + 4 ≤ k → k < 160 → m_shf J 87 k = J 87 k := fun k hk hk2 => by
    unfold m_shf
    rcases hde with ⟨e0, e1, e2⟩ | ⟨e0, e1, e2⟩
    · rw [if_neg (by rw [e1]; intro z; have := congrArg ix z; rw [ix_n (by omega), show ix (40 : Int32) = 40 from rfl] at this; omega)]
    · omega
  generalize m_shf J = K at hs29 hs0 hs87 hs88
  have i0 : ix (4 * nI d) = 4 * d := ix_40 hd40
  have i1 : ix (4 * nI d + 1) = 4 * d + 1 := ix_4 hd40 (j := 1) (by decide)
  have i2 : ix (4 * nI d + 2) = 4 * d + 2 := ix_4 hd40 (j := 2) (by decide)
  have i3 : ix (4 * nI d + 3) = 4 * d + 3 := ix_4 hd40 (j := 3) (by decide)
  have hm : m_note K b w x v = up2 (up2 (up2 (up2 (up2 (up2 K 87 (4 * d) b) 87 (4 * d + 1) w) 87 (4 * d + 2) x) 87 (4 * d + 3) v) 70 29 (nI (d + 1))) 70 28 (nI (d + 1)) := by
    unfold m_note
    rw [hs29, i0, i1, i2, i3, nI_1]
  rw [hm]
  have k29 : up2 (up2 (up2 (up2 (up2 (up2 K 87 (4 * d) b) 87 (4 * d + 1) w) 87 (4 * d + 2) x) 87 (4 * d + 3) v) 70 29 (nI (d + 1))) 70 28 (nI (d + 1)) 70 29 = nI (d + 1) := by rw [up2_k _ _ (by decide), up2_s]
  have k28 : up2 (up2 (up2 (up2 (up2 (up2 K 87 (4 * d) b) 87 (4 * d + 1) w) 87 (4 * d + 2) x) 87 (4 * d + 3) v) 70 29 (nI (d + 1))) 70 28 (nI (d + 1)) 70 28 = nI (d + 1) := by rw [up2_s]
  have k00 : up2 (up2 (up2 (up2 (up2 (up2 K 87 (4 * d) b) 87 (4 * d + 1) w) 87 (4 * d + 2) x) 87 (4 * d + 3) v) 70 29 (nI (d + 1))) 70 28 (nI (d + 1)) 70 0 = J 70 0 := by rw [up2_k _ _ (by decide), up2_k _ _ (by decide), up2_i _ _ (by decide), up2_i _ _ (by decide), up2_i _ _ (by decide), up2_i _ _ (by decide)]; exact hs0
  have kd : ∀ j : Nat, j < 4 * d ∨ 4 * d + 4 ≤ j → up2 (up2 (up2 (up2 (up2 (up2 K 87 (4 * d) b) 87 (4 * d + 1) w) 87 (4 * d + 2) x) 87 (4 * d + 3) v) 70 29 (nI (d + 1))) 70 28 (nI (d + 1)) 87 j = K 87 j := fun j hj => by rw [up2_i _ _ (by decide), up2_i _ _ (by decide), up2_k _ _ (by omega), up2_k _ _ (by omega), up2_k _ _ (by omega), up2_k _ _ (by omega)]
  have kd0 : up2 (up2 (up2 (up2 (up2 (up2 K 87 (4 * d) b) 87 (4 * d + 1) w) 87 (4 * d + 2) x) 87 (4 * d + 3) v) 70 29 (nI (d + 1))) 70 28 (nI (d + 1)) 87 (4 * d) = b := by rw [up2_i _ _ (by decide), up2_i _ _ (by decide), up2_k _ _ (by omega), up2_k _ _ (by omega), up2_k _ _ (by omega), up2_s]
  have kd1 : up2 (up2 (up2 (up2 (up2 (up2 K 87 (4 * d) b) 87 (4 * d + 1) w) 87 (4 * d + 2) x) 87 (4 * d + 3) v) 70 29 (nI (d + 1))) 70 28 (nI (d + 1)) 87 (4 * d + 1) = w := by rw [up2_i _ _ (by decide), up2_i _ _ (by decide), up2_k _ _ (by omega), up2_k _ _ (by omega), up2_s]
  have kd2 : up2 (up2 (up2 (up2 (up2 (up2 K 87 (4 * d) b) 87 (4 * d + 1) w) 87 (4 * d + 2) x) 87 (4 * d + 3) v) 70 29 (nI (d + 1))) 70 28 (nI (d + 1)) 87 (4 * d + 2) = x := by rw [up2_i _ _ (by decide), up2_i _ _ (by decide), up2_k _ _ (by omega), up2_s]
  have kd3 : up2 (up2 (up2 (up2 (up2 (up2 K 87 (4 * d) b) 87 (4 * d + 1) w) 87 (4 * d + 2) x) 87 (4 * d + 3) v) 70 29 (nI (d + 1))) 70 28 (nI (d + 1)) 87 (4 * d + 3) = v := by rw [up2_i _ _ (by decide), up2_i _ _ (by decide), up2_s]
  generalize up2 (up2 (up2 (up2 (up2 (up2 K 87 (4 * d) b) 87 (4 * d + 1) w) 87 (4 * d + 2) x) 87 (4 * d + 3) v) 70 29 (nI (d + 1))) 70 28 (nI (d + 1)) = Z at k29 k28 k00 kd kd0 kd1 kd2 kd3
  have hde0 : ∀ k : Nat, k < d → k + e < d0 + u0 := fun k hk => by
    rcases hde with ⟨e0, e1, e2⟩ | ⟨e0, e1, e2⟩
    · have := congrArg ix (a2.symm.trans e1)
      rw [ix_n (by omega), ix_n (by omega)] at this
      omega
    · have := congrArg ix (a2.symm.trans e2)
      rw [ix_n (by omega), ix_n (by omega)] at this
      omega
  refine ⟨d + 1, 0, ⟨by omega, k29, by rw [k28], h6, h7⟩, fun k hk => ?_, fun k hk => ?_⟩
  · by_cases hkd : k = d
    · subst hkd
      refine ⟨q, hq.1, hq.2.1, hq.2.2, by rw [kd1]; exact hQ.1, by rw [kd0]; exact hQ.2.1, by rw [kd2]; exact hQ.2.2.1, by rw [kd3]; exact hQ.2.2.2, ?_⟩
      unfold chOk
      rw [kd0, kd1, kd2, kd3, isOf_w k00]
      exact ⟨ho, f1, f2⟩
    · have hkd : k < d := by omega
      obtain ⟨q2, c1, c2, c3, c4, c5, c6, c7, c8⟩ := hc (k + e) (hde0 k hkd)
      have y : ∀ j : Nat, j < 4 → Z 87 (4 * k + j) = J 87 (4 * (k + e) + j) := fun j hj => by
        rw [kd _ (by omega), hs87 _ (by omega), show 4 * k + j + 4 * e = 4 * (k + e) + j by omega]
      have y0 := y 0 (by decide)
      have y1 := y 1 (by decide)
      have y2 := y 2 (by decide)
      have y3 := y 3 (by decide)
      rw [Nat.add_zero, Nat.add_zero] at y0
      refine ⟨q2, (hF k hkd).trans c1, ⟨c2.1, Nat.lt_of_lt_of_le c2.2 h1.1⟩, (h1.2 q2 c2.2).trans c3, ?_, ?_, ?_, ?_, ?_⟩
      · rw [hI q2 0 c2.1 c2.2 c3, y1]; exact c4
      · rw [hI q2 1 c2.1 c2.2 c3, y0]; exact c5
      · rw [hI q2 2 c2.1 c2.2 c3, y2]; exact c6
      · rw [hI q2 3 c2.1 c2.2 c3, y3]; exact c7
      · unfold chOk
        rw [y0, y1, y2, y3, isOf_w k00]
        exact c8
  · by_cases hkd : k = d
    · subst hkd
      rw [kd0, kd1]
      exact isOf_ok hb ho
    · rw [kd _ (by omega), kd _ (by omega)]
      by_cases hlt : k < d
      · have hd0 := hde0 k hlt
        rw [hs87 _ (by omega), hs87 _ (by omega), show 4 * k + 1 + 4 * e = 4 * (k + e) + 1 by omega, show 4 * k + 4 * e = 4 * (k + e) by omega]
        exact hw (k + e) (by omega)
      · rw [hs88 _ (by omega) (by omega), hs88 _ (by omega) (by omega)]
        exact hw k hk
theorem note_o {J : xI_T} {b w x v : Int32} {c s : Nat} (h : ¬ (c = 87 ∨ (c = 70 ∧ (s = 28 ∨ s = 29)))) : m_note (m_shf J) b w x v c s = J c s := by
  have e : m_shf J c s = J c s := by
    unfold m_shf
    split
    · rw [up2_n _ _ (by omega), cpy2_ap, if_neg (by omega)]
    · rfl
  unfold m_note
  rw [up2_n _ _ (by omega), up2_n _ _ (by omega), up2_n _ _ (by omega), up2_n _ _ (by omega), up2_n _ _ (by omega), up2_n _ _ (by omega)]
  exact e
theorem isQ.w {n n' : Nat} {Ty Ty' : Nat → xs_T} {F F' : xF_T} {b w : Int32} {q : Nat} (h : isQ n Ty F b w q) (h1 : grw n n' Ty Ty') (hF : ∀ k : Nat, F' 1 k = F 1 k) : isQ n' Ty' F' b w q := fun z => by
  obtain ⟨y, h2, h3, h4, h5, h6⟩ := h z
  exact ⟨y, h2, h3, (hF y).trans h4, ⟨h5.1, Nat.lt_of_lt_of_le h5.2 h1.1⟩, (h1.2 q h5.2).trans h6⟩
theorem get_w {J J' : xI_T} {b w : Int32} (h : ∀ q k : Nat, q = 71 ∨ q = 72 ∨ (q = 70 ∧ (k = 2 ∨ k = 3)) → J' q k = J q k) : m_get J' b w = m_get J b w := by
  unfold m_get
  repeat' split
  all_goals exact h _ _ (by omega)
/-- a change undone or done again: its number alone -/
theorem TCh.mv {n : Nat} {Ty : Nat → xs_T} {I I' : xI_T} {F : xF_T} {J J' : xI_T} {d u : Nat} (hc : ∀ k : Nat, k < d + u → ∃ q : Nat, F 2 k = some q ∧ (103 ≤ q ∧ q < n) ∧ Ty q = some (.inl 5) ∧ I q 0 = J 87 (4 * k + 1) ∧ I q 1 = J 87 (4 * k) ∧ I q 2 = J 87 (4 * k + 2) ∧ I q 3 = J 87 (4 * k + 3) ∧ chOk J k) (hw : ∀ k : Nat, k < 40 → okw (J 87 (4 * k + 1)) (J 87 (4 * k))) (d' u' : Nat) (hdu : d' + u' = d + u) (h40 : d + u ≤ 40) (j29 : J' 70 29 = nI d') (j28 : J' 70 28 = nI (d' + u')) (i6 : I' 0 6 = nI d') (i7 : I' 0 7 = nI u') (hI : ∀ q k : Nat, 103 ≤ q → q < n → Ty q = some (.inl 5) → I' q k = I q k) (hJ : ∀ q k : Nat, q = 87 ∨ (q = 70 ∧ k = 0) → J' q k = J q k) : TCh n Ty I' F J' := by
  have h87 : ∀ k : Nat, J' 87 k = J 87 k := fun k => hJ 87 k (by omega)
  refine ⟨d', u', ⟨by omega, j29, j28, i6, i7⟩, fun k hk => ?_, fun k hk => by rw [h87, h87]; exact hw k hk⟩
  obtain ⟨q, b1, b2, b3, b4, b5, b6, b7, b8⟩ := hc k (by omega)
  have hq : ∀ j : Nat, I' q j = I q j := fun j => hI q j b2.1 b2.2 b3
  refine ⟨q, b1, b2, b3, ?_, ?_, ?_, ?_, ?_⟩
  · rw [hq, h87]; exact b4
  · rw [hq, h87]; exact b5
  · rw [hq, h87]; exact b6
  · rw [hq, h87]; exact b7
  · unfold chOk
    rw [h87, h87, h87, h87, isOf_w (hJ 70 0 (by omega))]
    exact b8
