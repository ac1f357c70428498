/-! WALKS OF THE REFERENCE: a row -/
theorem g_X3_257 : xfg RX3 257 3 45 := ⟨_, _, _, rfl, by decide, in_X3, q1725, rfl⟩
theorem m_X3_260 : xcv RX3 260 3 yX3_goesIn cX3_goesIn 3 (some .boolean) 1 := ⟨_, _, _, rfl, lw_V q1984 q1986 qs70 q102 q1987, rfl, by decide +kernel, by decide +kernel, by decide +kernel⟩
theorem g_X3_98 : xfg RX3 98 3 47 := ⟨_, _, _, rfl, by decide, in_X3, q1727, rfl⟩
theorem g_X3_101 : xfg RX3 101 3 48 := ⟨_, _, _, rfl, by decide, in_X3, q1728, rfl⟩
theorem g_X3_104 : xfg RX3 104 3 49 := ⟨_, _, _, rfl, by decide, in_X3, q1729, rfl⟩
theorem m_X3_267 : xcv RX3 267 3 yX3_begins cX3_begins 2 (none) 0 := ⟨_, _, _, rfl, lw_V q1972 q1974 qs67 q102 q1975, rfl, by decide +kernel, by decide +kernel, by decide +kernel⟩
theorem m_X3_270 : xcv RX3 270 3 yX3_goes cX3_goes 2 (none) 0 := ⟨_, _, _, rfl, lw_V q1980 q1982 qs69 q102 q1983, rfl, by decide +kernel, by decide +kernel, by decide +kernel⟩
theorem m_X3_273 : xcv RX3 273 3 yX3_laysBack cX3_laysBack 4 (none) 2 := ⟨_, _, _, rfl, lw_V q2009 q2011 qs75 q102 q2012, rfl, by decide +kernel, by decide +kernel, by decide +kernel⟩
theorem p_X3_257 : xfp RX3 257 3 45 (tyX3 45) false := ⟨_, _, _, tyX3, rfl, by decide, in_X3, q1725, rfl, tyX3_ok, nmX3, tyX3_ok 45 (by decide), rfl⟩
theorem g_X3_79 : xfg RX3 79 3 36 := ⟨_, _, _, rfl, by decide, in_X3, q1716, rfl⟩
theorem m_X3_133 : xcv RX3 133 3 yX3_toldAt cX3_toldAt 3 (some .int) 2 := ⟨_, _, _, rfl, lw_V q1862 q1864 qs49 q102 q1865, rfl, by decide +kernel, by decide +kernel, by decide +kernel⟩
set_option maxHeartbeats 4000000 in
theorem t_goes (l : Launch) (G : xG_T) (n : Nat) (hn : 103 ≤ n) (I : xI_T) (L : xL_T)  (hA : Wall I) : CM l 5 yX3_goes cX3_goes 2 (none) G n [.ref (xb G + 70)] I L (none) (m_goes I) (L) := by
  refine Cg.intro (cls := RX3) (pad := 1) (lv := [some (.ref (xb G + 70)), none]) rfl (by decide) (Nat.le_of_ble_eq_true rfl) rfl (fun Θ h => ?_)
  obtain ⟨z, hz, ez⟩ := vp_in_of hA.2.2.1 (by decide)
  refine x_iconst h dX3_goes_0 (0) rfl ?_
  refine x_istore_n h dX3_goes_1 rfl (by decide) [some (.ref (xb G + 70)), some (.int 0)] rfl ?_
  have lp2 : ∀ (d : Nat) (k : Nat) (J : xI_T), z - k < d → (k ≤ z) → (J = m_goGo k I) → X Θ 0 0 n TyM J L FM 2 [some (.ref (xb G + 70)), some (.int (nI k))] [] := by
    intro d
    induction d with
    | zero =>
      intro k J hlt
      exact absurd hlt (Nat.not_lt_zero _)
    | succ d ih =>
      intro k J hlt hkz hJ
      have h45 : J 70 45 = nI z := by rw [hJ, goGo_o (gz3_70 (Or.inr (by decide)))]; exact ez
      have h96 : J 96 k = I 96 k := by rw [hJ]; exact goGo_o (gz3_q (Or.inl rfl)) k
      obtain ⟨hMJ, hWJ⟩ : Wmk J ∧ Wlaw J := by rw [hJ]; exact goGo_W hA.1 hA.2.1 hA.2.2 k (by rw [ez]; exact nI_le hkz (by omega)) (by omega)
      refine x_iload_n h dX3_goes_2 rfl ?_
      refine x_aload_n h dX3_goes_3 rfl ?_
      refine x_geti h g_X3_257 (mlt hn rfl) rfl rfl dX3_goes_4 ?_
      refine x_icmp_ge h 57 dX3_goes_7 rfl (fun c7 => ?_) (fun c7 => ?_)
      · skip
        have hk7 : k = z := Nat.le_antisymm hkz (nleN h45 (by omega) (by omega) c7)
        exact x_vret h dX3_goes_57 rfl (xpE.to rfl (by unfold m_goes; rw [ez, ix_n (by omega), ← hk7]; exact hJ) rfl rfl)
      · skip
        have hk7 : k < z := nltN h45 (by omega) (by omega) c7
        refine x_aload_n h dX3_goes_10 rfl ?_
        refine x_aload_n h dX3_goes_11 rfl ?_
        refine x_getr h (j := 96) g_X3_95 (mlt hn rfl) rfl (by decide) rfl dX3_goes_12 ?_
        refine x_iload_n h dX3_goes_15 rfl ?_
        refine x_iald h (mlt hn rfl) rfl (vp_in_nI (by omega) (by first | decide | omega)) (k) (nI_clamp (by omega)) dX3_goes_16 ?_
        refine x_callVEi h (As := [.int _]) (t_goesIn l G n hn _ _ _ (by rw [h96]; exact hA.2.2.2 k (by rw [ez]; exact nI_lt hk7 (by omega)) (by omega)) hMJ hWJ) m_X3_260 (mlt hn rfl) rfl dX3_goes_17 ⟨by decide, by decide⟩ ⟨by decide, by decide⟩ rfl (Nat.le_of_ble_eq_true rfl) ?_
        refine x_nmI (fun J17 eJ17 => ?_)
        refine x_pop h dX3_goes_20 rfl ?_
        refine x_aload_n h dX3_goes_21 rfl ?_
        refine x_getr h (j := 97) g_X3_98 (mlt hn rfl) rfl (by decide) rfl dX3_goes_22 ?_
        refine x_iload_n h dX3_goes_25 rfl ?_
        refine x_aload_n h dX3_goes_26 rfl ?_
        refine x_geti h g_X3_238 (mlt hn rfl) rfl rfl dX3_goes_27 ?_
        refine x_iast h (mlt hn rfl) rfl (vp_in_nI (by omega) (by first | decide | omega)) (k) (nI_clamp (by omega)) dX3_goes_30 (fun J30 eJ30 => ?_)
        refine x_aload_n h dX3_goes_31 rfl ?_
        refine x_getr h (j := 98) g_X3_101 (mlt hn rfl) rfl (by decide) rfl dX3_goes_32 ?_
        refine x_iload_n h dX3_goes_35 rfl ?_
        refine x_aload_n h dX3_goes_36 rfl ?_
        refine x_geti h g_X3_244 (mlt hn rfl) rfl rfl dX3_goes_37 ?_
        refine x_iast h (mlt hn rfl) rfl (vp_in_nI (by omega) (by first | decide | omega)) (k) (nI_clamp (by omega)) dX3_goes_40 (fun J40 eJ40 => ?_)
        refine x_aload_n h dX3_goes_41 rfl ?_
        refine x_getr h (j := 99) g_X3_104 (mlt hn rfl) rfl (by decide) rfl dX3_goes_42 ?_
        refine x_iload_n h dX3_goes_45 rfl ?_
        refine x_aload_n h dX3_goes_46 rfl ?_
        refine x_geti h g_X3_247 (mlt hn rfl) rfl rfl dX3_goes_47 ?_
        refine x_iast h (mlt hn rfl) rfl (vp_in_nI (by omega) (by first | decide | omega)) (k) (nI_clamp (by omega)) dX3_goes_50 (fun J50 eJ50 => ?_)
        refine x_iinc h dX3_goes_51 (by decide) rfl (nI (k + 1)) (nI_1 k) [some (.ref (xb G + 70)), some (.int (nI (k + 1)))] rfl ?_
        refine x_goto h 2 dX3_goes_54 rfl ?_
        exact ih (k + 1) J50 (by omega) (by omega) (by rw [eJ50, eJ40, eJ30, eJ17, hJ]; simp only [m_goGo])
  exact lp2 (z + 1) 0 I (by omega) (by omega) rfl
set_option maxHeartbeats 4000000 in
theorem t_purseBehind (l : Launch) (G : xG_T) (n : Nat) (hn : 103 ≤ n) (I : xI_T) (L : xL_T) (o : Int32) (hA : Wall I) (ho : vp_in o 8) : CM l 6 yX3_purseBehind cX3_purseBehind 3 (some .int) G n [.ref (xb G + 70), .int o] I L (some (.int ((m_pursB I o).1))) ((m_pursB I o).2) (L) := by
  refine Cg.intro (cls := RX3) (pad := 1) (lv := [some (.ref (xb G + 70)), some (.int o), none]) rfl (by decide) (Nat.le_of_ble_eq_true rfl) rfl (fun Θ h => ?_)
  refine x_aload_n h dX3_purseBehind_0 rfl ?_
  refine x_callVEv h (As := []) (t_begins l G n hn _ _  ) m_X3_267 (mlt hn rfl) rfl dX3_purseBehind_1 ⟨by decide, by decide⟩ ⟨by decide, by decide⟩ rfl (Nat.le_of_ble_eq_true rfl) ?_
  refine x_nmI (fun J1 eJ1 => ?_)
  refine x_aload_n h dX3_purseBehind_4 rfl ?_
  refine x_callVEv h (As := []) (t_goes l G n hn _ _  (by rw [eJ1]; exact hA.begins)) m_X3_270 (mlt hn rfl) rfl dX3_purseBehind_5 ⟨by decide, by decide⟩ ⟨by decide, by decide⟩ rfl (Nat.le_of_ble_eq_true rfl) ?_
  refine x_nmI (fun J5 eJ5 => ?_)
  refine x_aload_n h dX3_purseBehind_8 rfl ?_
  refine x_getr h (j := 72) g_X3_22 (mlt hn rfl) rfl (by decide) rfl dX3_purseBehind_9 ?_
  refine x_iload_n h dX3_purseBehind_12 rfl ?_
  refine x_iald h (mlt hn rfl) rfl (xin_mono ho (by decide)) _ rfl dX3_purseBehind_13 ?_
  refine x_nmi (fun v14 ev14 => ?_)
  refine x_istore_n h dX3_purseBehind_14 rfl (by decide) [some (.ref (xb G + 70)), some (.int o), some (.int v14)] rfl ?_
  refine x_aload_n h dX3_purseBehind_15 rfl ?_
  refine x_aload_n h dX3_purseBehind_16 rfl ?_
  refine x_getr h (j := 93) g_X3_86 (mlt hn rfl) rfl (by decide) rfl dX3_purseBehind_17 ?_
  refine x_iconst h dX3_purseBehind_20 (0) rfl ?_
  refine x_callVEv h (As := [.ref _, .int _]) (t_laysBack l G n hn _ _ 93 0 31 (Nat.le_of_ble_eq_true rfl) rfl (Nat.le_of_ble_eq_true rfl) (Nat.le_of_ble_eq_true rfl) (by decide)) m_X3_273 (mlt hn rfl) rfl dX3_purseBehind_21 ⟨by decide, by decide⟩ ⟨by decide, by decide⟩ rfl (Nat.le_of_ble_eq_true rfl) ?_
  refine x_nmI (fun J21 eJ21 => ?_)
  refine x_iload_n h dX3_purseBehind_24 rfl ?_
  exact x_iret h dX3_purseBehind_25 rfl (xpE.to (by subst_vars; first | with_reducible rfl | (simp only [m_pursB, m_behind, *]; done) | (simp only [m_pursB, m_behind, ix, *]; rfl) | (simp [m_pursB, m_behind, ix, up2_ap, bec_k, bec_i, *]; done)) (by subst_vars; first | with_reducible rfl | (simp only [m_pursB, m_behind, *]; done) | (simp only [m_pursB, m_behind, ix, *]; rfl) | (simp [m_pursB, m_behind, ix, up2_ap, bec_k, bec_i, *]; done)) rfl rfl)
set_option maxHeartbeats 4000000 in
theorem t_reads (l : Launch) (G : xG_T) (n : Nat) (hn : 103 ≤ n) (I : xI_T) (L : xL_T) (s : Int32) (hs : vp_in s 6) (hb : vp_in (I 70 0) 9) : CM l 2 yX3_reads cX3_reads 2 (none) G n [.ref (xb G + 70), .int s] I L (none) (m_reads I L s) (L) := by
  refine Cg.intro (cls := RX3) (pad := 0) (lv := [some (.ref (xb G + 70)), some (.int s)]) rfl (by decide) (Nat.le_of_ble_eq_true rfl) rfl (fun Θ h => ?_)
  refine x_aload_n h dX3_reads_0 rfl ?_
  refine x_iconst h dX3_reads_1 (0) rfl ?_
  refine x_puti h p_X3_257 (mlt hn rfl) rfl rfl rfl rfl dX3_reads_2 (fun J2 eJ2 => ?_)
  have lp5 : ∀ (d : Nat) (e k : Nat) (J : xI_T), e < d → (e + k = 20) → (J 70 45 = nI k) → (vp_in (J 70 0) 9) → (m_reads I L s = m_readGo L s (e + 1) J) → X Θ 0 0 n TyM J L FM 5 [some (.ref (xb G + 70)), some (.int s)] [] := by
    intro d
    induction d with
    | zero =>
      intro e k J hlt
      exact absurd hlt (Nat.not_lt_zero _)
    | succ d ih =>
      intro e k J hlt he h45 h0 hJ
      have hi : vp_in (60 * s + J 70 45) 360 := told_in hs (by rw [h45]; exact vp_in_nI (by omega) (by decide))
      refine x_aload_n h dX3_reads_5 rfl ?_
      refine x_geti h g_X3_257 (mlt hn rfl) rfl rfl dX3_reads_6 ?_
      refine x_bipush h dX3_reads_9 (20) rfl ?_
      refine x_icmp_ge h 74 dX3_reads_11 rfl (fun c11 => ?_) (fun c11 => ?_)
      · skip
        have hz : m_reads I L s = J := by rw [hJ]; exact readGo_0 c11
        exact x_vret h dX3_reads_74 rfl (xpE.to rfl (by rw [hz]) rfl rfl)
      · skip
        have hk20 : k < 20 := by rw [h45] at c11; exact Nat.not_le.mp fun q => c11 (nI_le q (by omega))
        obtain ⟨e2, rfl⟩ : ∃ z : Nat, e = z + 1 := ⟨e - 1, by omega⟩
        refine x_aload_n h dX3_reads_14 rfl ?_
        refine x_geti h g_X3_257 (mlt hn rfl) rfl rfl dX3_reads_15 ?_
        refine x_aload_n h dX3_reads_18 rfl ?_
        refine x_getr h (j := 91) g_X3_79 (mlt hn rfl) rfl (by decide) rfl dX3_reads_19 ?_
        refine x_iload_n h dX3_reads_22 rfl ?_
        refine x_iald h (mlt hn rfl) rfl hs _ rfl dX3_reads_23 ?_
        refine x_icmp_ge h 74 dX3_reads_24 rfl (fun c24 => ?_) (fun c24 => ?_)
        · skip
          have hz : m_reads I L s = J := by rw [hJ]; exact readGo_1 c11 c24
          exact x_vret h dX3_reads_74 rfl (xpE.to rfl (by rw [hz]) rfl rfl)
        · skip
          refine x_aload_n h dX3_reads_27 rfl ?_
          refine x_aload_n h dX3_reads_28 rfl ?_
          refine x_iload_n h dX3_reads_29 rfl ?_
          refine x_aload_n h dX3_reads_30 rfl ?_
          refine x_geti h g_X3_257 (mlt hn rfl) rfl rfl dX3_reads_31 ?_
          refine x_callVEi h (As := [.int _, .int _]) (t_toldAt l G n hn _ _ _ _ hi) m_X3_133 (mlt hn rfl) rfl dX3_reads_34 ⟨by decide, by decide⟩ ⟨by decide, by decide⟩ rfl (Nat.le_of_ble_eq_true rfl) ?_
          refine x_callVEi h (As := [.int _]) (t_isBuyer l G n hn _ _ _ ) m_X3_137 (mlt hn rfl) rfl dX3_reads_37 ⟨by decide, by decide⟩ ⟨by decide, by decide⟩ rfl (Nat.le_of_ble_eq_true rfl) ?_
          refine x_if_eq h 74 dX3_reads_40 rfl (fun c40 => ?_) (fun c40 => ?_)
          · skip
            have hz : m_reads I L s = J := by rw [hJ]; exact readGo_2 c11 c24 c40
            exact x_vret h dX3_reads_74 rfl (xpE.to rfl (by rw [hz]) rfl rfl)
          · skip
            refine x_aload_n h dX3_reads_43 rfl ?_
            refine x_getr h (j := 96) g_X3_95 (mlt hn rfl) rfl (by decide) rfl dX3_reads_44 ?_
            refine x_aload_n h dX3_reads_47 rfl ?_
            refine x_geti h g_X3_257 (mlt hn rfl) rfl rfl dX3_reads_48 ?_
            refine x_aload_n h dX3_reads_51 rfl ?_
            refine x_iload_n h dX3_reads_52 rfl ?_
            refine x_aload_n h dX3_reads_53 rfl ?_
            refine x_geti h g_X3_257 (mlt hn rfl) rfl rfl dX3_reads_54 ?_
            refine x_callVEi h (As := [.int _, .int _]) (t_toldAt l G n hn _ _ _ _ hi) m_X3_133 (mlt hn rfl) rfl dX3_reads_57 ⟨by decide, by decide⟩ ⟨by decide, by decide⟩ rfl (Nat.le_of_ble_eq_true rfl) ?_
            refine x_iast h (mlt hn rfl) rfl (by rw [h45]; exact vp_in_nI (by omega) (by decide)) _ rfl dX3_reads_60 (fun J60 eJ60 => ?_)
            refine x_aload_n h dX3_reads_61 rfl ?_
            refine x_dup h dX3_reads_62 rfl ?_
            refine x_geti h g_X3_257 (mlt hn rfl) rfl rfl dX3_reads_63 ?_
            refine x_iconst h dX3_reads_66 (1) rfl ?_
            refine x_iadd h dX3_reads_67 ?_
            refine x_puti h p_X3_257 (mlt hn rfl) rfl rfl rfl rfl dX3_reads_68 (fun J68 eJ68 => ?_)
            refine x_goto h 5 dX3_reads_71 rfl ?_
            exact ih e2 (k + 1) J68 (by omega) (by omega) (by rw [eJ68, up2_s, eJ60, up2_i _ _ (by decide), h45]; exact nI_1 k) (by rw [eJ68, up2_k _ _ (by decide), eJ60, up2_i _ _ (by decide)]; exact h0) (by rw [hJ, readGo_3 c11 c24 c40, eJ68, eJ60, up2_i J _ (by decide)])
  exact lp5 21 20 0 J2 (by decide) (by decide) (by rw [eJ2]; exact up2_s _ _ _ _) (by rw [eJ2, up2_k _ _ (by decide)]; exact hb) (by rw [eJ2]; rfl)
