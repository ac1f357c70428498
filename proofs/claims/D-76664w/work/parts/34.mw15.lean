/-! WALKS OF THE REFERENCE: what fits -/

set_option maxHeartbeats 4000000 in
theorem t_thirds (l : Launch) (G : xG_T) (n : Nat) (hn : 103 ≤ n) (I : xI_T) (L : xL_T) (s : Int32) (hA : Wall I) (hL : Wsh I) (hs : vp_in s 6) : CM l 7 yX3_thirds cX3_thirds 5 (some .int) G n [.ref (xb G + 70), .int s] I L (some (.int ((m_thirds I L s).1))) ((m_thirds I L s).2) (L) := by
  refine Cg.intro (cls := RX3) (pad := 3) (lv := [some (.ref (xb G + 70)), some (.int s), none, none, none]) rfl (by decide) (Nat.le_of_ble_eq_true rfl) rfl (fun Θ h => ?_)
  refine x_aload_n h dX3_thirds_0 rfl ?_
  refine x_geti h g_X3_15 (mlt hn rfl) rfl rfl dX3_thirds_1 ?_
  refine x_nmi (fun v4 ev4 => ?_)
  refine x_istore_n h dX3_thirds_4 rfl (by decide) [some (.ref (xb G + 70)), some (.int s), some (.int v4), none, none] rfl ?_
  refine x_iconst h dX3_thirds_5 (0) rfl ?_
  refine x_istore_n h dX3_thirds_6 rfl (by decide) [some (.ref (xb G + 70)), some (.int s), some (.int v4), some (.int 0), none] rfl ?_
  refine x_iconst h dX3_thirds_7 (1) rfl ?_
  refine x_istore h dX3_thirds_8 (by decide) [some (.ref (xb G + 70)), some (.int s), some (.int v4), some (.int 0), some (.int 1)] rfl ?_
  have lp10 : ∀ (d : Nat) (k : Nat) (y : Int32 × xI_T), 5 - k < d → (k ≤ 5) → (y = m_thGo L s k (0, I)) → (Wall y.2) → (Wsh y.2) → X Θ 0 0 n TyM y.2 L FM 10 [some (.ref (xb G + 70)), some (.int s), some (.int v4), some (.int y.1), some (.int (nI (k + 1)))] [] := by
    intro d
    induction d with
    | zero =>
      intro k y hlt
      exact absurd hlt (Nat.not_lt_zero _)
    | succ d ih =>
      intro k y hlt hk hy hAy hSy
      refine x_iload h dX3_thirds_10 rfl ?_
      refine x_bipush h dX3_thirds_12 (6) rfl ?_
      refine x_icmp_ge h 46 dX3_thirds_14 rfl (fun c14 => ?_) (fun c14 => ?_)
      · skip
        have hk5 : k = 5 := by have q := nleN (N := 6) (k := k + 1) rfl (by decide) (by omega) c14; omega
        refine x_aload_n h dX3_thirds_46 rfl ?_
        refine x_iload_n h dX3_thirds_47 rfl ?_
        refine x_puti h p_X3_15 (mlt hn rfl) rfl rfl rfl rfl dX3_thirds_48 (fun J48 eJ48 => ?_)
        refine x_iload_n h dX3_thirds_51 rfl ?_
        exact x_iret h dX3_thirds_52 rfl (xpE.to (by unfold m_thirds; rw [hy, hk5]) (by rw [eJ48, ev4, hy, hk5]; rfl) rfl rfl)
      · skip
        have hk5 : k < 5 := by have q := nltN (N := 6) (k := k + 1) rfl (by decide) (by omega) c14; omega
        refine x_aload_n h dX3_thirds_17 rfl ?_
        refine x_iload h dX3_thirds_18 rfl ?_
        refine x_puti h p_X3_15 (mlt hn rfl) rfl rfl rfl rfl dX3_thirds_20 (fun J20 eJ20 => ?_)
        refine x_aload_n h dX3_thirds_23 rfl ?_
        refine x_iload_n h dX3_thirds_24 rfl ?_
        refine x_callVEi h (As := [.int _]) (t_unlike l G n hn _ _ _ (by rw [eJ20]; exact hAy.third (by omega) (by omega)) hs (by rw [eJ20]; exact (hSy.up (by decide)) s hs)) m_X3_320 (mlt hn rfl) rfl dX3_thirds_25 ⟨by decide, by decide⟩ ⟨by decide, by decide⟩ rfl (Nat.le_of_ble_eq_true rfl) ?_
        refine x_nmI (fun J25 eJ25 => ?_)
        refine x_bipush h dX3_thirds_28 (-2) rfl ?_
        refine x_icmp_ne h 40 dX3_thirds_30 rfl (fun c30 => ?_) (fun c30 => ?_)
        · skip
          refine x_iinc h dX3_thirds_40 (by decide) rfl (nI (k + 1 + 1)) (nI_1 (k + 1)) [some (.ref (xb G + 70)), some (.int s), some (.int v4), some (.int y.1), some (.int (nI (k + 1 + 1)))] rfl ?_
          refine x_goto h 10 dX3_thirds_43 rfl ?_
          exact ih (k + 1) ((y.1), J25) (by omega) (by omega) (by show _ = (m_bit (m_unl (up2 (m_thGo L s k (0, I)).2 70 2 (nI (k + 1))) L s).1 (nI (k + 1)) (m_thGo L s k (0, I)).1, (m_unl (up2 (m_thGo L s k (0, I)).2 70 2 (nI (k + 1))) L s).2); rw [← hy, ← eJ20, ← eJ25]; unfold m_bit; first | (rw [if_neg c30]; done) | (rw [if_pos c30, ev39]; done)) (by show Wall J25; rw [eJ25, eJ20]; exact (hAy.third (by omega) (by omega)).unl) (by show Wsh J25; rw [eJ25, eJ20]; exact (hSy.up (by decide)).unl)
        · skip
          refine x_iload_n h dX3_thirds_33 rfl ?_
          refine x_iconst h dX3_thirds_34 (1) rfl ?_
          refine x_iload h dX3_thirds_35 rfl ?_
          refine x_ishl h dX3_thirds_37 ?_
          refine x_ior h dX3_thirds_38 ?_
          refine x_nmi (fun v39 ev39 => ?_)
          refine x_istore_n h dX3_thirds_39 rfl (by decide) [some (.ref (xb G + 70)), some (.int s), some (.int v4), some (.int v39), some (.int (nI (k + 1)))] rfl ?_
          refine x_iinc h dX3_thirds_40 (by decide) rfl (nI (k + 1 + 1)) (nI_1 (k + 1)) [some (.ref (xb G + 70)), some (.int s), some (.int v4), some (.int v39), some (.int (nI (k + 1 + 1)))] rfl ?_
          refine x_goto h 10 dX3_thirds_43 rfl ?_
          exact ih (k + 1) ((v39), J25) (by omega) (by omega) (by show _ = (m_bit (m_unl (up2 (m_thGo L s k (0, I)).2 70 2 (nI (k + 1))) L s).1 (nI (k + 1)) (m_thGo L s k (0, I)).1, (m_unl (up2 (m_thGo L s k (0, I)).2 70 2 (nI (k + 1))) L s).2); rw [← hy, ← eJ20, ← eJ25]; unfold m_bit; first | (rw [if_neg c30]; done) | (rw [if_pos c30, ev39]; done)) (by show Wall J25; rw [eJ25, eJ20]; exact (hAy.third (by omega) (by omega)).unl) (by show Wsh J25; rw [eJ25, eJ20]; exact (hSy.up (by decide)).unl)
  exact lp10 6 0 (0, I) (by decide) (by decide) rfl hA hL
set_option maxHeartbeats 4000000 in
theorem t_whose (l : Launch) (G : xG_T) (n : Nat) (hn : 103 ≤ n) (I : xI_T) (L : xL_T) (s : Int32) (p : Nat) (hA : Wall I) (hL : Wsh I) (hs : vp_in s 6) (hp : p < 20) : CM l 7 yX3_whose cX3_whose 6 (some .int) G n [.ref (xb G + 70), .int s, .int (nI p)] I L (some (.int ((m_whose I L s p).1))) ((m_whose I L s p).2) (L) := by
  refine Cg.intro (cls := RX3) (pad := 3) (lv := [some (.ref (xb G + 70)), some (.int s), some (.int (nI p)), none, none, none]) rfl (by decide) (Nat.le_of_ble_eq_true rfl) rfl (fun Θ h => ?_)
  refine x_aload_n h dX3_whose_0 rfl ?_
  refine x_getr h (j := 96) g_X3_95 (mlt hn rfl) rfl (by decide) rfl dX3_whose_1 ?_
  refine x_iload_n h dX3_whose_4 rfl ?_
  refine x_iald h (mlt hn rfl) rfl (vp_in_nI (by omega) (by first | decide | omega)) (p) (nI_clamp (by omega)) dX3_whose_5 ?_
  refine x_nmi (fun v6 ev6 => ?_)
  refine x_istore_n h dX3_whose_6 rfl (by decide) [some (.ref (xb G + 70)), some (.int s), some (.int (nI p)), some (.int v6), none, none] rfl ?_
  refine x_iconst h dX3_whose_7 (0) rfl ?_
  refine x_istore h dX3_whose_8 (by decide) [some (.ref (xb G + 70)), some (.int s), some (.int (nI p)), some (.int v6), some (.int 0), none] rfl ?_
  refine x_iconst h dX3_whose_10 (0) rfl ?_
  refine x_istore h dX3_whose_11 (by decide) [some (.ref (xb G + 70)), some (.int s), some (.int (nI p)), some (.int v6), some (.int 0), some (.int 0)] rfl ?_
  obtain ⟨b, hb9, hb⟩ : ∃ b : Nat, b < 9 ∧ I 70 0 = nI b := vp_in_of hA.1.1 (by decide)
  have lp13 : ∀ (d : Nat) (k : Nat) (y : Int32 × xI_T), b - k < d → (k ≤ b) → (y = m_whGo L s p k (0, I)) → (Wall y.2) → (Wsh y.2) → (y.2 70 0 = nI b) → X Θ 0 0 n TyM y.2 L FM 13 [some (.ref (xb G + 70)), some (.int s), some (.int (nI p)), some (.int v6), some (.int y.1), some (.int (nI k))] [] := by
    intro d
    induction d with
    | zero =>
      intro k y hlt
      exact absurd hlt (Nat.not_lt_zero _)
    | succ d ih =>
      intro k y hlt hk hy hAy hSy h0
      refine x_iload h dX3_whose_13 rfl ?_
      refine x_aload_n h dX3_whose_15 rfl ?_
      refine x_geti h g_X3_116 (mlt hn rfl) rfl rfl dX3_whose_16 ?_
      refine x_icmp_ge h 55 dX3_whose_19 rfl (fun c19 => ?_) (fun c19 => ?_)
      · skip
        have hkb : k = b := Nat.le_antisymm hk (nleN h0 (by omega) (by omega) c19)
        refine x_aload_n h dX3_whose_55 rfl ?_
        refine x_getr h (j := 96) g_X3_95 (mlt hn rfl) rfl (by decide) rfl dX3_whose_56 ?_
        refine x_iload_n h dX3_whose_59 rfl ?_
        refine x_iload_n h dX3_whose_60 rfl ?_
        refine x_iast h (mlt hn rfl) rfl (vp_in_nI (by omega) (by first | decide | omega)) (p) (nI_clamp (by omega)) dX3_whose_61 (fun J61 eJ61 => ?_)
        refine x_iload h dX3_whose_62 rfl ?_
        exact x_iret h dX3_whose_64 rfl (xpE.to (by unfold m_whose; rw [hb, ix_n (by omega), hy, hkb]) (by rw [eJ61, ev6, hy, hkb]; unfold m_whose; rw [hb, ix_n (by omega)]) rfl rfl)
      · skip
        have hkb : k < b := nltN h0 (by omega) (by omega) c19
        refine x_aload_n h dX3_whose_22 rfl ?_
        refine x_getr h (j := 96) g_X3_95 (mlt hn rfl) rfl (by decide) rfl dX3_whose_23 ?_
        refine x_iload_n h dX3_whose_26 rfl ?_
        refine x_iload h dX3_whose_27 rfl ?_
        refine x_iast h (mlt hn rfl) rfl (vp_in_nI (by omega) (by first | decide | omega)) (p) (nI_clamp (by omega)) dX3_whose_29 (fun J29 eJ29 => ?_)
        refine x_aload_n h dX3_whose_30 rfl ?_
        refine x_iload_n h dX3_whose_31 rfl ?_
        refine x_callVEi h (As := [.int _]) (t_unlike l G n hn _ _ _ (by rw [eJ29]; exact hAy.place (vp_in_nI (by omega) (by decide))) hs (by rw [eJ29]; exact (hSy.up (by decide)) s hs)) m_X3_320 (mlt hn rfl) rfl dX3_whose_32 ⟨by decide, by decide⟩ ⟨by decide, by decide⟩ rfl (Nat.le_of_ble_eq_true rfl) ?_
        refine x_nmI (fun J32 eJ32 => ?_)
        refine x_bipush h dX3_whose_35 (-2) rfl ?_
        refine x_icmp_ne h 49 dX3_whose_37 rfl (fun c37 => ?_) (fun c37 => ?_)
        · skip
          refine x_iinc h dX3_whose_49 (by decide) rfl (nI (k + 1)) (nI_1 k) [some (.ref (xb G + 70)), some (.int s), some (.int (nI p)), some (.int v6), some (.int y.1), some (.int (nI (k + 1)))] rfl ?_
          refine x_goto h 13 dX3_whose_52 rfl ?_
          exact ih (k + 1) ((y.1), J32) (by omega) (by omega) (by show _ = (m_bit (m_unl (up2 (m_whGo L s p k (0, I)).2 96 p (nI k)) L s).1 (nI k) (m_whGo L s p k (0, I)).1, (m_unl (up2 (m_whGo L s p k (0, I)).2 96 p (nI k)) L s).2); rw [← hy, ← eJ29, ← eJ32]; unfold m_bit; first | (rw [if_neg c37]; done) | (rw [if_pos c37, ev47]; done)) (by show Wall J32; rw [eJ32, eJ29]; exact (hAy.place (vp_in_nI (by omega) (by decide))).unl) (by show Wsh J32; rw [eJ32, eJ29]; exact (hSy.up (by decide)).unl) (by show J32 70 0 = nI b; rw [eJ32, unl_o (gz3_70 (Or.inl (by decide))) (by decide), eJ29, up2_i _ _ (by decide)]; exact h0)
        · skip
          refine x_iload h dX3_whose_40 rfl ?_
          refine x_iconst h dX3_whose_42 (1) rfl ?_
          refine x_iload h dX3_whose_43 rfl ?_
          refine x_ishl h dX3_whose_45 ?_
          refine x_ior h dX3_whose_46 ?_
          refine x_nmi (fun v47 ev47 => ?_)
          refine x_istore h dX3_whose_47 (by decide) [some (.ref (xb G + 70)), some (.int s), some (.int (nI p)), some (.int v6), some (.int v47), some (.int (nI k))] rfl ?_
          refine x_iinc h dX3_whose_49 (by decide) rfl (nI (k + 1)) (nI_1 k) [some (.ref (xb G + 70)), some (.int s), some (.int (nI p)), some (.int v6), some (.int v47), some (.int (nI (k + 1)))] rfl ?_
          refine x_goto h 13 dX3_whose_52 rfl ?_
          exact ih (k + 1) ((v47), J32) (by omega) (by omega) (by show _ = (m_bit (m_unl (up2 (m_whGo L s p k (0, I)).2 96 p (nI k)) L s).1 (nI k) (m_whGo L s p k (0, I)).1, (m_unl (up2 (m_whGo L s p k (0, I)).2 96 p (nI k)) L s).2); rw [← hy, ← eJ29, ← eJ32]; unfold m_bit; first | (rw [if_neg c37]; done) | (rw [if_pos c37, ev47]; done)) (by show Wall J32; rw [eJ32, eJ29]; exact (hAy.place (vp_in_nI (by omega) (by decide))).unl) (by show Wsh J32; rw [eJ32, eJ29]; exact (hSy.up (by decide)).unl) (by show J32 70 0 = nI b; rw [eJ32, unl_o (gz3_70 (Or.inl (by decide))) (by decide), eJ29, up2_i _ _ (by decide)]; exact h0)
  exact lp13 (b + 1) 0 (0, I) (by omega) (by omega) rfl hA hL hb
