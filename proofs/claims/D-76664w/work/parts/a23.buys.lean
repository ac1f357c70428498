/-! BUYERS out of a row, on both sides -/
theorem buy_x {i : Int32} {k zz : Nat} (hk : k < 8) (hz : zz ≤ 60) (h : vp_in (i + 3 * nI k) zz) : ∃ x : Nat, x < zz ∧ i + 3 * nI k = nI x ∧ i.toInt + 3 * k = x := by
  obtain ⟨x, hx, ex⟩ := vp_in_of h (by omega)
  refine ⟨x, hx, ex, ?_⟩
  have e := congrArg Int32.toInt ex
  rw [show (3 : Int32) * nI k = nI (3 * k) from pk_mul 3 k, Int32.toInt_add, nI_toInt (by omega), nI_toInt (by omega)] at e
  have h1 := Int32.le_toInt i
  have h2 := Int32.toInt_lt i
  unfold Int.bmod at e
  simp only at e
  split at e <;> omega
/-- three places in turn: all within, or the first that isn't -/
theorem buy_cases {i : Int32} {k zz : Nat} (hk : k < 8) (hz : zz ≤ 60) : (¬ (i.toInt64 + 3 * (nI k).toInt64 < 0 ∨ (nI zz).toInt64 < i.toInt64 + 3 * (nI k).toInt64 + 3) ∧ ∃ x : Nat, x + 3 ≤ zz ∧ i + 3 * nI k = nI x ∧ (i.toInt64 + 3 * (nI k).toInt64).toInt32 = nI x) ∨ ((i.toInt64 + 3 * (nI k).toInt64 < 0 ∨ (nI zz).toInt64 < i.toInt64 + 3 * (nI k).toInt64 + 3) ∧ (¬ vp_in (i + 3 * nI k) zz ∨ (∃ x : Nat, i + 3 * nI k = nI x ∧ x + 1 = zz) ∨ ∃ x : Nat, i + 3 * nI k = nI x ∧ x + 2 = zz)) := by
  have hf := l_f (i := i) (k := k) (by omega)
  have h1 := Int32.le_toInt i
  have h2 := Int32.toInt_lt i
  by_cases h : i.toInt64 + 3 * (nI k).toInt64 < 0 ∨ (nI zz).toInt64 < i.toInt64 + 3 * (nI k).toInt64 + 3
  · refine Or.inr ⟨h, ?_⟩
    by_cases hv : vp_in (i + 3 * nI k) zz
    · obtain ⟨x, hx, ex, ei⟩ := buy_x hk hz hv
      have h0 : ¬ i.toInt64 + 3 * (nI k).toInt64 < 0 := fun y => by
        rw [Int64.lt_iff_toInt_lt, hf, show (0 : Int64).toInt = 0 from rfl] at y
        omega
      obtain ⟨a, ha, ea⟩ := pk_lOf h0
      have hax : a = x := by
        have e := congrArg Int64.toInt ea
        rw [hf, ei, pk_lT ha] at e
        omega
      subst hax
      rw [ea] at h
      have h3 := h.resolve_left (by rw [← ea]; exact h0)
      rw [nI_l (by omega), show lN a + 3 = lN (a + 3) from lN_add a 3, pk_lLT (by omega) (by omega)] at h3
      have z : a + 1 = zz ∨ a + 2 = zz := by omega
      rcases z with z | z
      · exact Or.inr (Or.inl ⟨a, ex, z⟩)
      · exact Or.inr (Or.inr ⟨a, ex, z⟩)
    · exact Or.inl hv
  · refine Or.inl ⟨h, ?_⟩
    have hr : vp_in (nI zz) 61 := vp_in_nI (by omega) (by decide)
    obtain ⟨a, ha, ea, ea2, ha3⟩ := l_of (f := i.toInt64 + 3 * (nI k).toInt64) (r := nI zz) (by rw [hf]; omega) (fun y => h (Or.inl y)) hr (fun y => h (Or.inr y))
    rw [ix_n (by omega)] at ha3
    refine ⟨a, ha3, ?_, ea2⟩
    have e : i.toInt + 3 * k = a := by
      have y := congrArg Int64.toInt ea
      rw [hf, pk_lT (by omega)] at y
      exact y
    rw [i_eq, show (3 : Int32) * nI k = nI (3 * k) from pk_mul 3 k, i_add (by rw [nI_toInt (by omega)]; omega) (by rw [nI_toInt (by omega)]; omega), nI_toInt (by omega), nI_toInt (by omega)]
    omega
theorem TOP.gr {n n' : Nat} {Ty : Nat → xs_T} {I : xI_T} {L : xL_T} {F : xF_T} {J : xI_T} {M : xL_T} (h : TOP n Ty I L F J M) (hn : n ≤ n') : TOP n' (xtr n Ty) I L F J M := h.q ⟨hn, fun i hi => xtr_l hi⟩ Fr.rf (fun _ _ _ => rfl) h.2.2.2.2.2.2.1
theorem grw.xt {n n' : Nat} {Ty : Nat → xs_T} (hn : n ≤ n') : grw n n' Ty (xtr n Ty) := ⟨hn, fun i hi => xtr_l hi⟩
theorem isOf_nb {J : xI_T} {nb : Nat} {p w q : Int32} (h8 : nb < 8) (e : J 70 0 = nI nb) : ¬ m_isOf (m_newBuyer J p w q) (nI nb) 0 = 0 := by
  have e0 : m_newBuyer J p w q 70 0 = nI (nb + 1) := by rw [newBuyer_1 h8 e, up2_s]
  unfold m_isOf
  rw [if_pos (by decide)]
  unfold m_isB
  rw [e0, show nI (nb + 1) - 1 = nI nb from nI_pred nb]
  unfold inR
  rw [if_neg (by rw [i_lt, nI_toInt (by omega), show (0 : Int32).toInt = 0 from rfl]; omega), if_neg (by rw [i_lt, nI_toInt (by omega)]; omega)]
  decide
theorem newBuyer_90 {J : xI_T} {p w q : Int32} {c s : Nat} (h : c = 90 ∨ c = 91) : m_newBuyer J p w q c s = J c s := by
  unfold m_newBuyer
  rw [up2_i _ _ (by omega), up2_i _ _ (by omega), up2_i _ _ (by omega), up2_i _ _ (by omega)]
/-- the class of what isn't a row of shorts -/
theorem noshort {ci : Nat} (h : (15 ≤ ci ∧ ci ≤ 22) ∨ (24 ≤ ci ∧ ci ≤ 28 ∧ ci ≠ 25)) : ∃ (C : String) (T : u_T) (M : Nat), xcl[ci]? = some (C, T, M) ∧ (C, "ThirdAfter$ShortRow") ∈ xpairs := by
  have z : ci = 15 ∨ ci = 16 ∨ ci = 17 ∨ ci = 18 ∨ ci = 19 ∨ ci = 20 ∨ ci = 21 ∨ ci = 22 ∨ ci = 24 ∨ ci = 26 ∨ ci = 27 ∨ ci = 28 := by omega
  rcases z with rfl | rfl | rfl | rfl | rfl | rfl | rfl | rfl | rfl | rfl | rfl | rfl
  all_goals exact ⟨_, _, _, rfl, by decide +kernel⟩
theorem shK.short {n : Nat} {Ty : Nat → xs_T} {I : xI_T} {L : xL_T} {F : xF_T} {J : xI_T} {M : xL_T} {s : Nat} (h : shK n Ty I L F J M s) : (F 33 s = none ∧ J 90 s = -1) ∨ (∃ q : Nat, F 33 s = some q ∧ q < n ∧ Ty q = some (.inl 25) ∧ J 90 s = nI 1) ∨ ∃ q ci t : Nat, F 33 s = some q ∧ q < n ∧ Ty q = some (.inl ci) ∧ ((15 ≤ ci ∧ ci ≤ 22) ∨ (24 ≤ ci ∧ ci ≤ 28 ∧ ci ≠ 25)) ∧ J 90 s = nI t ∧ t ≠ 1 ∧ t < 1000 := by
  rcases h with h | ⟨q, t, a, z, ⟨h1, h2, h3, h4, h5⟩, h6, ⟨h7, h8, h9, h10, h11, h12⟩, h13⟩ | ⟨q, b, c, ⟨h1, h2, h3, h4, h5, h6⟩, h7, h8⟩
  · exact Or.inl h
  · by_cases ht : t = 1
    · subst ht
      exact Or.inr (Or.inl ⟨q, h1, h3, h5, h6⟩)
    · exact Or.inr (Or.inr ⟨q, 24 + t, t, h1, h3, h5, Or.inr (by omega), h6, ht, by omega⟩)
  · exact Or.inr (Or.inr ⟨q, 15 + c, 10 + b, h1, h4, h6, Or.inl (by omega), h8, by omega, by omega⟩)
theorem shK.row1 {n : Nat} {Ty : Nat → xs_T} {I : xI_T} {L : xL_T} {F : xF_T} {J : xI_T} {M : xL_T} {s q : Nat} (h : shK n Ty I L F J M s) (hq : F 33 s = some q) (h90 : J 90 s = nI 1) : ∃ a z : Nat, (q < n ∧ Ty q = some (.inl 25)) ∧ F q 0 = some a ∧ a < n ∧ z ≤ 60 ∧ J 91 s = nI z ∧ Ty a = some (.inr (2, z)) ∧ ∀ i : Nat, i < z → (I a i).toInt64 = M 92 (60 * s + i) := by
  rcases h with h | ⟨q2, t, a, z, ⟨h1, h2, h3, h4, h5⟩, h6, ⟨h7, h8, h9, h10, h11, h12⟩, h13⟩ | ⟨q2, b, c, ⟨h1, h2, h3, h4, h5, h6⟩, h7, h8⟩
  · rw [h.1] at hq; cases hq
  · have e := Option.some.inj (h1.symm.trans hq)
    subst e
    have et := congrArg ix (h6.symm.trans h90)
    rw [ix_n (by omega), ix_n (by omega)] at et
    subst et
    exact ⟨a, z, ⟨h3, h5⟩, h7, h9, h10, h11, h12, fun i hi => by have y := (h13 i hi).1; rw [if_neg (by decide)] at y; exact y⟩
  · have et := congrArg ix (h8.symm.trans h90)
    rw [ix_n (by omega), ix_n (by omega)] at et
    omega
