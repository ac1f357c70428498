/-! EVENINGS, TURNS, DRAWS: what ties both sides -/
theorem fmt_day {d : Int32} (h : vp_in d 100) : jmin 99 (d + 1) = (if d < 99 then d + 1 else d) ∧ vp_in (jmin 99 (d + 1)) 100 := by
  obtain ⟨t, ht, rfl⟩ := vp_in_of h (by decide)
  rw [nI_1, show (99 : Int32) = nI 99 from rfl, jmin_n (by decide) (by omega)]
  by_cases q : t < 99
  · rw [if_pos ((nI_ltI (by omega) (by decide)).mpr q), Nat.min_eq_right (by omega)]
    exact ⟨rfl, vp_in_nI (by omega) (by decide)⟩
  · rw [if_neg (fun z => q ((nI_ltI (by omega) (by decide)).mp z)), Nat.min_eq_left (by omega), show t = 99 by omega]
    exact ⟨rfl, vp_in_nI (by decide) (by decide)⟩
theorem ends_8 {K : xI_T} : m_ends K 72 8 = jmin 99 (K 72 8 + 1) := by
  unfold m_ends
  rw [fil2_ap, if_neg (by decide), up2_s]
theorem ends_9 {K : xI_T} {j : Nat} (h : 9 ≤ j) (h2 : j < 18) : m_ends K 72 j = 0 := by
  unfold m_ends
  rw [fil2_ap, if_pos ⟨rfl, h, h2⟩]
theorem keve_o {A : xI_T} {g q j : Nat} (h : ¬ (q = g ∧ (j = 6 ∨ j = 8))) (h2 : q ≠ g + 3) : k_eve A g q j = A q j := by
  unfold k_eve
  rw [fil2_ap, if_neg (by omega), up2_n _ _ (by omega)]
  split
  · rw [up2_n _ _ (by omega)]
  · rfl
theorem keve_3 {A : xI_T} {g j : Nat} (h : j < 8) : k_eve A g (g + 3) j = 0 := by
  unfold k_eve
  rw [fil2_ap, if_pos ⟨rfl, Nat.zero_le _, h⟩]
theorem keve_6 {A : xI_T} {g : Nat} : k_eve A g g 6 = 0 := by
  unfold k_eve
  rw [fil2_ap, if_neg (by omega), up2_s]
theorem keve_8 {A : xI_T} {g : Nat} : k_eve A g g 8 = if A g 8 < 99 then A g 8 + 1 else A g 8 := by
  unfold k_eve
  rw [fil2_ap, if_neg (by omega), up2_k _ _ (by decide)]
  split
  · rw [up2_s]
  · rfl
theorem eve_R {A K : xI_T} {g : Nat} (h : RC A K g) (hd : vp_in (K 72 8) 100) (hb : ix (K 70 0) ≤ 8) : RC (k_eve A g) (m_ends K) g := by
  obtain ⟨a, ⟨b1, b2⟩, c, d, e, f⟩ := h
  have o : ∀ q j : Nat, ¬ (q = 72 ∧ 8 ≤ j ∧ j < 18) → m_ends K q j = K q j := fun q j y => ends_o y
  refine ⟨fun k hk => ⟨?_, ?_, ?_⟩, ⟨?_, fun k hk => ?_⟩, ?_, ?_, ?_, ?_⟩
  · rw [o 70 0 (by omega)] at hk
    rw [keve_o (by omega) (by omega), o _ _ (by omega)]; exact (a k hk).1
  · rw [o 70 0 (by omega)] at hk
    rw [keve_o (by omega) (by omega), o _ _ (by omega)]; exact (a k hk).2.1
  · rw [o 70 0 (by omega)] at hk
    rw [keve_3 (by omega), ends_9 (by omega) (by omega)]
  · rw [keve_o (by omega) (by omega), o _ _ (by omega)]; exact b1
  · rw [o _ _ (by omega)] at hk
    rw [keve_o (by omega) (by omega), keve_o (by omega) (by omega), o _ _ (by omega), o _ _ (by omega), o 70 0 (by omega)]
    exact b2 k hk
  · rw [keve_6, ends_9 (by decide) (by decide)]
  · rw [keve_o (by omega) (by omega), o _ _ (by omega)]; exact d
  · rw [keve_8, e, ends_8, (fmt_day hd).1]
  · rw [keve_o (by omega) (by omega), o _ _ (by omega)]; exact f
theorem pays_8 {K : xI_T} {c : Int32} (h : Wmk K) (hc : vp_in c 8) : m_pays K c 72 8 = K 72 8 := by
  rw [pays_72 (h.2.2.2.2 19 (by decide) (by decide)) hc (by decide)]
  unfold m_shift
  rw [if_neg (by omega), if_neg (by omega), up2_k _ _ (by decide)]
theorem payAll_8 {c : Int32} (hc : vp_in c 8) : ∀ (d : Nat) (K : xI_T), ix (K 72 18) < d → Wmk K → m_payAll c d K 72 8 = K 72 8
  | 0, K, h, _ => absurd h (Nat.not_lt_zero _)
  | d + 1, K, h, hM => by
    by_cases hlt : K 72 18 < K 70 2
    · rw [payAll_0 hlt]
    · have h0 := third_0 hM hlt
      rw [payAll_1 hlt, payAll_8 hc d _ (by rw [pays_18 hM hc h0]; exact ix_pred hM.2.2.2.1 h0 h) (hM.pays hc h0), pays_8 hM hc]
theorem goes1_8 {K : xI_T} {c : Int32} (hM : Wmk K) (hc : vp_in c 8) : m_goes1 K c 72 8 = K 72 8 := by
  by_cases ho : m_out (m_none K) c = true
  · rw [goes1_0 ho, none_i (by decide)]
  · rw [goes1_1 ho]
    have hMn := hM.none
    have e := payAll_8 hc 7 (m_none K) (ix_7 hMn.2.2.2.1) hMn
    obtain ⟨w1, w2⟩ := payAll_W hc 7 (m_none K) (ix_7 hMn.2.2.2.1) hMn
    rw [none_i (show (72 : Nat) ≠ 70 by decide) (j := 8)] at e
    generalize m_payAll c 7 (m_none K) = P at e w1 w2
    obtain ⟨z, hz5, ez⟩ := vp_in_of (third_5 w1 w2) (by decide)
    obtain ⟨x, hx8, ex⟩ := vp_in_of hc (by decide)
    have k18 : up2 (m_buys P c (m_none K 72 (ix c))).2 70 42 (m_buys P c (m_none K 72 (ix c))).1 72 18 = nI z := by rw [up2_i _ _ (by decide), buys_o (by decide) (by decide)]; exact ez
    generalize hY : up2 (m_buys P c (m_none K 72 (ix c))).2 70 42 (m_buys P c (m_none K 72 (ix c))).1 = Y at k18
    have y8 : Y 72 8 = K 72 8 := by rw [← hY, up2_i _ _ (by decide), buys_o (by decide) (by decide)]; exact e
    have x1 : ix (19 + nI z) = 19 + z := by rw [show (19 : Int32) + nI z = nI (19 + z) from nI_add 19 z]; exact ix_n (by omega)
    have x2 : ix (25 + nI z) = 25 + z := by rw [show (25 : Int32) + nI z = nI (25 + z) from nI_add 25 z]; exact ix_n (by omega)
    have x3 : ix (10 + nI x) = 10 + x := by rw [show (10 : Int32) + nI x = nI (10 + x) from nI_add 10 x]; exact ix_n (by omega)
    rw [ex]
    simp only [m_book1, k18, x1, x3]
    rw [up2_k _ _ (by omega), up2_k _ _ (by omega), up2_k _ _ (by omega), up2_k Y _ (by omega), k18, x2, up2_k _ _ (by omega), up2_k _ _ (by omega)]
    exact y8
theorem goGo_8 {K : xI_T} {z : Nat} (hM : Wmk K) (hw : Wlaw K) (hr : ∀ k : Nat, k < z → ∃ w : Nat, w < ix (K 70 0) ∧ K 96 k = nI w) : ∀ k : Nat, k ≤ z → m_goGo k K 72 8 = K 72 8
  | 0, _ => rfl
  | k + 1, hk => by
    obtain ⟨w1, w2⟩ := goGo_M hM hw hr k (by omega)
    obtain ⟨nb, hnb, enb⟩ := vp_in_of hM.1 (by decide)
    obtain ⟨x, hx, ex⟩ := hr k (by omega)
    rw [enb, ix_n (by omega)] at hx
    rw [goGo_q (by decide), goes1_8 w1 (by rw [goGo_o (gz3_q (Or.inl rfl)), ex]; exact vp_in_nI (by omega) (by decide))]
    exact goGo_8 hM hw hr k (by omega)
theorem Wmk.ends {K : xI_T} (h : Wmk K) : Wmk (m_ends K) := h.mv (ends_o (by omega)) (ends_o (by omega)) fun j _ _ => ends_o (by omega)
theorem Wlaw.ends {K : xI_T} (h : Wlaw K) : Wlaw (m_ends K) := h.mv (ends_o (by omega)) fun q j _ _ => ends_o (by omega)
/-- a market stands, the reference's cells of it by their places -/
theorem RC.mv31 {I I' J J' : xI_T} {g : Nat} (h : RC I J g) (hM : Wmk J) (hI : ∀ q k : Nat, g ≤ q → q ≤ g + 5 → I' q k = I q k) (h0 : J' 70 0 = J 70 0) (h2 : J' 70 2 = J 70 2) (h43 : J' 70 43 = J 70 43) (h71 : ∀ k : Nat, k < 8 → J' 71 k = J 71 k) (h72 : ∀ k : Nat, k < 31 → J' 72 k = J 72 k) : RC I' J' g := by
  obtain ⟨nb, hnb, enb⟩ := vp_in_of hM.1 (by decide)
  obtain ⟨z, hz, ez⟩ := vp_in_of hM.2.2.2.1 (by decide)
  have ixb : ix (J 70 0) = nb := by rw [enb]; exact ix_n (by omega)
  have ixz : ix (J 72 18) = z := by rw [ez]; exact ix_n (by omega)
  obtain ⟨a, ⟨b1, b2⟩, c, d, e, f⟩ := h
  refine ⟨fun k hk => ?_, ⟨?_, fun k hk => ?_⟩, ?_, ?_, ?_, ?_⟩
  · rw [h0] at hk
    rw [hI _ _ (by omega) (by omega), hI _ _ (by omega) (by omega), hI _ _ (by omega) (by omega), h72 _ (by omega), h71 k (by omega), h72 _ (by omega)]
    exact a k hk
  · rw [hI _ _ (by omega) (by omega), h72 _ (by decide)]; exact b1
  · rw [h72 _ (by decide)] at hk
    rw [hI _ _ (by omega) (by omega), hI _ _ (by omega) (by omega), h72 _ (by omega), h72 _ (by omega), h0]
    exact b2 k hk
  · rw [hI _ _ (by omega) (by omega), h72 _ (by decide)]; exact c
  · rw [hI _ _ (by omega) (by omega), h2]; exact d
  · rw [hI _ _ (by omega) (by omega), h72 _ (by decide)]; exact e
  · rw [hI _ _ (by omega) (by omega), h43]; exact f
theorem tho_at {n : Nat} {Ty : Nat → xs_T} {F : xF_T} (hC : WC n Ty F) : ∀ i : Nat, i < 6 → F 12 i = some (34 + 6 * i) ∧ isMk (34 + 6 * i)
  | 0, _ => ⟨hC.2.2 _ _ _ rfl, by unfold isMk; omega⟩
  | 1, _ => ⟨hC.2.2 _ _ _ rfl, by unfold isMk; omega⟩
  | 2, _ => ⟨hC.2.2 _ _ _ rfl, by unfold isMk; omega⟩
  | 3, _ => ⟨hC.2.2 _ _ _ rfl, by unfold isMk; omega⟩
  | 4, _ => ⟨hC.2.2 _ _ _ rfl, by unfold isMk; omega⟩
  | 5, _ => ⟨hC.2.2 _ _ _ rfl, by unfold isMk; omega⟩
  | i + 6, h => absurd h (by omega)
theorem in_m1 {J : xI_T} {o : Int32} (hb : vp_in (J 70 0) 9) : inR o (-1) (J 70 0 - 1) = 0 ↔ (¬ o = -1 ∧ m_isB J o = 0) := by
  obtain ⟨nb, hnb, enb⟩ := vp_in_of hb (by decide)
  have e1 : (J 70 0 - 1).toInt = (nb : Int) - 1 := by
    rw [enb, i_sub (by rw [nI_toInt (by omega), show (1 : Int32).toInt = 1 from rfl]; omega) (by rw [nI_toInt (by omega), show (1 : Int32).toInt = 1 from rfl]; omega), nI_toInt (by omega), show (1 : Int32).toInt = 1 from rfl]
  unfold m_isB inR
  have a1 : o < -1 ↔ o.toInt < -1 := by rw [i_lt, show (-1 : Int32).toInt = -1 from rfl]
  have a2 : J 70 0 - 1 < o ↔ (nb : Int) - 1 < o.toInt := by rw [i_lt, e1]
  have a3 : o < 0 ↔ o.toInt < 0 := by rw [i_lt, show (0 : Int32).toInt = 0 from rfl]
  have a4 : o = -1 ↔ o.toInt = -1 := by rw [i_eq, show (-1 : Int32).toInt = -1 from rfl]
  by_cases h1 : o < -1
  · rw [if_pos h1, if_pos (a3.mpr (by have := a1.mp h1; omega))]
    exact ⟨fun _ => ⟨fun z => by have := a4.mp z; have := a1.mp h1; omega, rfl⟩, fun _ => rfl⟩
  · rw [if_neg h1]
    have h1' : ¬ o.toInt < -1 := fun z => h1 (a1.mpr z)
    by_cases h2 : J 70 0 - 1 < o
    · rw [if_pos h2]
      have h2' := a2.mp h2
      refine ⟨fun _ => ⟨fun z => by have := a4.mp z; omega, ?_⟩, fun _ => rfl⟩
      by_cases h3 : o < 0
      · rw [if_pos h3]
      · rw [if_neg h3]
    · rw [if_neg h2]
      have h2' : ¬ (nb : Int) - 1 < o.toInt := fun z => h2 (a2.mpr z)
      refine ⟨fun z => absurd z (by decide), fun ⟨z1, z2⟩ => ?_⟩
      by_cases h3 : o < 0
      · exact absurd (a4.mpr (by have := a3.mp h3; omega)) z1
      · rw [if_neg h3] at z2
        exact z2
/-- what deeds by turns may write -/
def tset (i q k : Nat) : Prop := (q = 0 ∧ 15 ≤ k ∧ k ≤ 17) ∨ q = 5 ∨ (14 ≤ q ∧ q ≤ 21) ∨ (40 + 6 * i ≤ q ∧ q < 70)
def BstC (d : Nat) : Prop := ∀ (l : Launch) (G : xG_T) (n : Nat) (Ty : Nat → xs_T) (F : xF_T) (_ : WC n Ty F) (I : xI_T) (L : xL_T) (J : xI_T) (i g a b : Nat) (_ : i + d ≤ 5) (_ : g = 34 + 6 * i) (_ : KS n Ty I F J) (_ : RC I J g) (_ : Wmk J) (_ : Wlaw J) (_ : I 0 24 = nI a) (_ : I 0 25 = nI b) (_ : a < ix (J 70 0)) (_ : b < ix (J 70 0)), CR l (262 + d) yX0_bestOf cX0_bestOf 7 (some .int) G n Ty F [.ref (xb G + 0), .int (nI i), .int (nI d)] I L (aR (fun r I2 => r = (m_turn (nI a) (nI b) d i J).1 ∧ Fr (tset i) I I2))
theorem comesAt_1 {a b : Int32} {d i : Nat} {I : xI_T} : (m_comesAt a b d i I).1 = (m_turn a b d (i + 1) (m_goes1 (m_keeps I 94 (31 * i)) (if i % 2 = 0 then a else b))).1 := by
  simp only [m_comesAt]
/-- the reference's state ahead of a deed, with what the component's market lacks -/
def trK (a b : Int32) (d i : Nat) (J : xI_T) : xI_T := sh (J 70 43 - (m_turn a b d (i + 1) J).2 70 43) (m_keeps (m_turn a b d (i + 1) J).2 94 (31 * i))
theorem trK_o {a b : Int32} {d i q j : Nat} {J : xI_T} (h : gz q j) (h4 : q ≠ 94) : trK a b d i J q j = J q j := by
  unfold trK
  by_cases z : q = 70 ∧ j = 43
  · have := h.2.2.2.2 z.1
    omega
  · rw [sh_o z, keeps_o (Or.inl h4)]
    exact (turn_K d (i + 1) J).1 q j h h4
theorem trK_72 {a b : Int32} {d i j : Nat} {J : xI_T} (h : j < 31) : trK a b d i J 72 j = J 72 j := by
  unfold trK
  rw [sh_i (by decide), keeps_o (Or.inl (by decide))]
  exact (turn_K d (i + 1) J).2.2 j h
theorem trK_43 {a b : Int32} {d i : Nat} {J : xI_T} : trK a b d i J 70 43 = J 70 43 := by
  unfold trK sh
  rw [up2_s, keeps_o (Or.inl (by decide)), Int32.add_comm, Int32.sub_add_cancel]
theorem trK_1 {a b : Int32} {d i : Nat} {J : xI_T} : (m_turn a b d (i + 1) (m_goes1 (trK a b d i J) (if i % 2 = 0 then a else b))).1 = (m_comesAt a b d i (m_turn a b d (i + 1) J).2).1 := by
  rw [comesAt_1]
  unfold trK
  rw [sh_goes1, sh_turn]
theorem trK_R {a b : Int32} {d i g : Nat} {A B J : xI_T} (h : RC A J g) (hM : Wmk J) (hB : ∀ q k : Nat, g ≤ q → q ≤ g + 5 → B q k = A q k) : RC B (trK a b d i J) g :=
  h.mv31 hM hB (trK_o ⟨by decide, by decide, by decide, by decide, fun _ => Or.inl (by decide)⟩ (by decide)) (trK_o ⟨by decide, by decide, by decide, by decide, fun _ => Or.inl (by decide)⟩ (by decide)) trK_43 (fun k _ => trK_o (gz_q ⟨by decide, by decide, by decide, by decide, by decide⟩) (by decide)) (fun k hk => trK_72 hk)
theorem trK_W {a b : Int32} {d i : Nat} {J : xI_T} (hM : Wmk J) (hW : Wlaw J) : Wmk (trK a b d i J) ∧ Wlaw (trK a b d i J) := by
  have g70 : ∀ j : Nat, j < 40 → gz 70 j := fun j hj => ⟨by decide, by decide, by decide, by decide, fun _ => Or.inl hj⟩
  exact ⟨hM.mv (trK_o (g70 0 (by decide)) (by decide)) (trK_o (g70 2 (by decide)) (by decide)) fun j _ h2 => trK_72 (by omega), hW.mv (trK_o (g70 8 (by decide)) (by decide)) fun q j h1 h2 => trK_o (gz_q ⟨by omega, by omega, by omega, by omega, by omega⟩) (by omega)⟩
theorem KS.tr4 {n : Nat} {Ty : Nat → xs_T} {I I' : xI_T} {F : xF_T} {J J' : xI_T} (h : KS n Ty I F J) (hI : Fr (fun q k => ¬ (103 ≤ q ∨ (q = 0 ∧ (k = 1 ∨ k = 3)))) I I') (hJ : ∀ q k : Nat, gz q k → q ≠ 94 → J' q k = J q k) : KS n Ty I' F J' := by
  have g70 : ∀ j : Nat, j < 40 → J' 70 j = J 70 j := fun j hj => hJ 70 j ⟨by decide, by decide, by decide, by decide, fun _ => Or.inl hj⟩ (by decide)
  exact h.mv4 (fun q k y => hI q k (by omega)) (hI 0 1 (by omega)) (hI 0 3 (by omega)) (g70 0 (by decide)) (g70 3 (by decide)) (g70 7 (by decide)) (g70 8 (by decide)) (fun k _ => hJ 71 k (gz_q ⟨by decide, by decide, by decide, by decide, by decide⟩) (by decide)) (fun q k a b => hJ q k (gz_q ⟨by omega, by omega, by omega, by omega, by omega⟩) (by omega))
theorem isB_ge {J : xI_T} {o : Int32} (hb : vp_in (J 70 0) 9) (h : ¬ m_isB J o = 0) : 0 ≤ o := by
  obtain ⟨y, hy, hy8, ey⟩ := isB_y hb h
  rw [ey]
  exact nI_pos' (by omega)
