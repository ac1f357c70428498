/-! SHELVES written, on both sides -/
theorem inR_vp {i : Int32} {z : Nat} (hz : z ≤ 60) : ¬ inR i 0 (nI z - 1) = 0 ↔ vp_in i z := by
  have e1 : (nI z - 1).toInt = (z : Int) - 1 := by
    rw [i_sub (by rw [nI_toInt (by omega), show (1 : Int32).toInt = 1 from rfl]; omega) (by rw [nI_toInt (by omega), show (1 : Int32).toInt = 1 from rfl]; omega), nI_toInt (by omega), show (1 : Int32).toInt = 1 from rfl]
  rw [inR_n, i_lt, i_lt, e1, show (0 : Int32).toInt = 0 from rfl]
  constructor
  · rintro ⟨a, b⟩
    exact vp_in_iff.mpr (by omega)
  · intro h
    obtain ⟨x, hx, rfl⟩ := vp_in_of h (by omega)
    rw [nI_toInt (by omega)]
    omega
theorem isRow_t {J : xI_T} {s t : Nat} (hs : s < 6) (h : J 90 s = nI t) (ht : t < 1000) : ¬ m_isRow J (nI s) = 0 ↔ t < 5 := by
  unfold m_isRow
  rw [ix_n (by omega), h, inR_n, i_lt, i_lt, nI_toInt (by omega), show (0 : Int32).toInt = 0 from rfl, show (4 : Int32).toInt = 4 from rfl]
  omega
theorem isRow_e {J : xI_T} {s : Nat} (hs : s < 6) (h : J 90 s = -1) : m_isRow J (nI s) = 0 := by
  unfold m_isRow
  rw [ix_n (by omega), h]
  rfl
theorem nI_m9 {t : Nat} (ht : t < 1000) : ¬ nI t = -1 := fun z => by
  have y := congrArg Int32.toInt z
  rw [nI_toInt (by omega), show (-1 : Int32).toInt = -1 from rfl] at y
  omega
/-- a shelf by its kinds -/
theorem shK.kinds {n : Nat} {Ty : Nat → xs_T} {I : xI_T} {L : xL_T} {F : xF_T} {J : xI_T} {M : xL_T} {s : Nat} (h : shK n Ty I L F J M s) : (F 33 s = none ∧ J 90 s = -1) ∨ (∃ q a z : Nat, shRow n Ty I L F J M s q 0 a z) ∨ (∃ q a z : Nat, shRow n Ty I L F J M s q 1 a z) ∨ (∃ q a z : Nat, shRow n Ty I L F J M s q 2 a z) ∨ (∃ q a z : Nat, shRow n Ty I L F J M s q 3 a z) ∨ (∃ q a z : Nat, shRow n Ty I L F J M s q 4 a z) ∨ ∃ q c b : Nat, F 33 s = some q ∧ q < n ∧ Ty q = some (.inl (15 + c)) ∧ c ≤ 7 ∧ J 90 s = nI (10 + b) ∧ b < 50 ∧ F 32 b = some q := by
  rcases h with h | ⟨q, t, a, z, h⟩ | ⟨q, b, c, ⟨h1, h2, h3, h4, h5, h6⟩, h7, h8⟩
  · exact Or.inl h
  · have ht := h.1.2.2.2.1
    have y : t = 0 ∨ t = 1 ∨ t = 2 ∨ t = 3 ∨ t = 4 := by omega
    rcases y with rfl | rfl | rfl | rfl | rfl
    · exact Or.inr (Or.inl ⟨q, a, z, h⟩)
    · exact Or.inr (Or.inr (Or.inl ⟨q, a, z, h⟩))
    · exact Or.inr (Or.inr (Or.inr (Or.inl ⟨q, a, z, h⟩)))
    · exact Or.inr (Or.inr (Or.inr (Or.inr (Or.inl ⟨q, a, z, h⟩))))
    · exact Or.inr (Or.inr (Or.inr (Or.inr (Or.inr (Or.inl ⟨q, a, z, h⟩)))))
  · exact Or.inr (Or.inr (Or.inr (Or.inr (Or.inr (Or.inr ⟨q, c, b, h1, h4, h6, h5, h8, h7, h2⟩)))))
/-- the class of a body is no row -/
theorem norow {c : Nat} (h : c ≤ 7) : ∃ (C : String) (T : u_T) (M : Nat), xcl[15 + c]? = some (C, T, M) ∧ (C, "ThirdAfter$Row") ∈ xpairs := by
  have z : c = 0 ∨ c = 1 ∨ c = 2 ∨ c = 3 ∨ c = 4 ∨ c = 5 ∨ c = 6 ∨ c = 7 := by omega
  rcases z with rfl | rfl | rfl | rfl | rfl | rfl | rfl | rfl
  all_goals exact ⟨_, _, _, rfl, by decide +kernel⟩
/-- one place of a row written, on both sides -/
theorem TOP.put {n : Nat} {Ty : Nat → xs_T} {I I' : xI_T} {L L' : xL_T} {F : xF_T} {J : xI_T} {M : xL_T} {s q t a z i : Nat} {v : Int64} (h : TOP n Ty I L F J M) (hs : s < 6) (hr : shRow n Ty I L F J M s q t a z) (hi : i < z) (hI : ∀ c k : Nat, ¬ (c = a ∧ k = i) → I' c k = I c k) (hL : ∀ c k : Nat, ¬ (c = a ∧ k = i) → L' c k = L c k) (hv : (if t = 3 then L' a i else (I' a i).toInt64) = v) (hf : t ≠ 3 → fits (xty (rkd t)) (.int (I' a i)) = true) : TOP n Ty I' L' F J (up2 M 92 (60 * s + i) v) := by
  obtain ⟨a1, a2, a3, a4, a5, a6, a7, a8, a9, b1, b2, b3, b4, b5, b6, b7⟩ := h
  obtain ⟨⟨r1, r2, r3, r4, r5⟩, r6, ⟨r7, r8, r9, r10, r11, r12⟩, r13⟩ := hr
  have i0 : ∀ c k : Nat, c < 103 → I' c k = I c k := fun c k z => hI c k (by omega)
  have dI : dynI n Ty I I' := fun c k x z1 z2 z3 z4 => hI c k (fun e => by rw [e.1, r12] at z3; injection z3 with y; cases y)
  have dB : dynB n Ty I I' := fun c k z1 z2 z3 => hI c k (fun e => by rw [e.1, r12] at z3; injection z3 with y; cases y)
  refine ⟨a1, a2.w (fun k _ _ => i0 0 k (by decide)) (fun _ _ _ => rfl), a3.w a6 (fun c k _ => i0 c k (by omega)) (fun _ _ _ => rfl), a4.w a6 grw.rf dB (fun _ _ => rfl) (fun _ _ _ => rfl), a5.w grw.rf dI dynF.rf rfl (fun _ _ _ => rfl), a6, a7.w (fun k => i0 23 k (by decide)) (fun _ => rfl), a8, a9.w grw.rf dI ⟨i0 0 6 (by decide), i0 0 7 (by decide)⟩ (fun _ => rfl) (fun _ _ _ => rfl), b1.w (fun c k _ => i0 c k (by omega)) (fun _ _ _ => rfl), b2.w (fun k _ _ => i0 0 k (by decide)) (fun _ => rfl), b3.w (fun c k _ => i0 c k (by omega)) (fun _ _ _ => rfl) (Nat.le_refl _), b4.w grw.rf dI dynF.rf (i0 0 42 (by decide)) (fun _ => rfl) (fun _ _ _ => rfl), b5.w (fun c k _ => i0 c k (by omega)) (fun _ _ _ => rfl), ?_, b7.w (fun k => i0 9 k (by decide)) (fun _ _ _ => rfl)⟩
  obtain ⟨c1, c2, c3, c4⟩ := b6
  refine ⟨fun s' hs' => ?_, c2, c3, c4⟩
  by_cases e : s' = s
  · subst e
    refine Or.inr (Or.inl ⟨q, t, a, z, ⟨r1, r2, r3, r4, r5⟩, r6, ⟨r7, r8, r9, r10, r11, r12⟩, fun j hj => ?_⟩)
    by_cases ej : j = i
    · subst ej
      rw [up2_s]
      exact ⟨hv, hf⟩
    · rw [hI a j (fun y => ej y.2), hL a j (fun y => ej y.2), up2_k _ _ (by omega)]
      exact r13 j hj
  · rcases c1 s' hs' with g | ⟨q2, t2, a2', z2, ⟨g1, g2, g3, g4, g5⟩, g6, ⟨g7, g8, g9, g10, g11, g12⟩, g13⟩ | g
    · exact Or.inl g
    · have hne : a2' ≠ a := fun y => c3 s s' a hs hs' (Ne.symm e) ⟨q, t, r1, r3, r4, r5, r7⟩ ⟨q2, t2, g1, g3, g4, g5, by rw [← y]; exact g7⟩
      refine Or.inr (Or.inl ⟨q2, t2, a2', z2, ⟨g1, g2, g3, g4, g5⟩, g6, ⟨g7, g8, g9, g10, g11, g12⟩, fun j hj => ?_⟩)
      rw [hI a2' j (fun y => hne y.1), hL a2' j (fun y => hne y.1), up2_k _ _ (by omega)]
      exact g13 j hj
    · exact Or.inr (Or.inr g)
theorem kept_v {t : Nat} {v : Int64} (ht : t < 5) : m_kept (nI t) v = if t = 0 then v.toInt32.toInt8.toInt32.toInt64 else if t = 1 then v.toInt32.toInt16.toInt32.toInt64 else if t = 2 then v.toInt32.toInt64 else if t = 3 then v else if v = 0 then 0 else 1 := by
  have y : t = 0 ∨ t = 1 ∨ t = 2 ∨ t = 3 ∨ t = 4 := by omega
  rcases y with rfl | rfl | rfl | rfl | rfl <;> rfl
theorem nar_b {x : Int32} : vp_nar .byte x.toInt8.toInt32 = x.toInt8.toInt32 := by rw [vp_nar_byte]; simp
theorem nar_s {x : Int32} : vp_nar .short x.toInt16.toInt32 = x.toInt16.toInt32 := by rw [vp_nar_short]; simp
theorem nar_z {v : Int64} : vp_nar .boolean (if v = 0 then 0 else 1) = if v = 0 then 0 else 1 := by
  split <;> rfl
theorem bool_l {x : Int32} (h : fits (xty (rkd 4)) (.int x) = true) : (if x = 0 then (0 : Int64) else 1) = x.toInt64 := by
  have h2 : (x == 0 || x == 1) = true := h
  rcases Bool.or_eq_true_iff.mp h2 with y | y
  · rw [eq_of_beq y]; rfl
  · rw [eq_of_beq y]; rfl
