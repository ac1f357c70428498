/-! WALKS OF THE REFERENCE: values, buyers, changes -/
theorem m_X3_119 : xcs RX3 119 yX3_within cX3_within 3 (some .boolean) 3 := ⟨lw_S q1847 q1848 q102 q1849, by decide +kernel, by decide +kernel, by decide +kernel⟩
theorem g_X3_116 : xfg RX3 116 3 0 := ⟨_, _, _, rfl, by decide, in_X3, q1680, rfl⟩
theorem g_X3_22 : xfg RX3 22 3 4 := ⟨_, _, _, rfl, by decide, in_X3, q1684, rfl⟩
theorem g_X3_9 : xfg RX3 9 3 1 := ⟨_, _, _, rfl, by decide, in_X3, q1681, rfl⟩
theorem p_X3_116 : xfp RX3 116 3 0 (tyX3 0) false := ⟨_, _, _, tyX3, rfl, by decide, in_X3, q1680, rfl, tyX3_ok, nmX3, tyX3_ok 0 (by decide), rfl⟩
theorem m_X3_123 : xcv RX3 123 3 yX3_newBuyer cX3_newBuyer 4 (some .int) 3 := ⟨_, _, _, rfl, lw_V q1850 q1852 qs48 q102 q1853, rfl, by decide +kernel, by decide +kernel, by decide +kernel⟩
theorem g_X3_82 : xfg RX3 82 3 37 := ⟨_, _, _, rfl, by decide, in_X3, q1717, rfl⟩
theorem m_X3_137 : xcv RX3 137 3 yX3_isBuyer cX3_isBuyer 2 (some .boolean) 1 := ⟨_, _, _, rfl, lw_V q1874 q1876 qs51 q102 q1877, rfl, by decide +kernel, by decide +kernel, by decide +kernel⟩
theorem g_X3_15 : xfg RX3 15 3 2 := ⟨_, _, _, rfl, by decide, in_X3, q1682, rfl⟩
theorem g_X3_19 : xfg RX3 19 3 3 := ⟨_, _, _, rfl, by decide, in_X3, q1683, rfl⟩
theorem p_X3_15 : xfp RX3 15 3 2 (tyX3 2) false := ⟨_, _, _, tyX3, rfl, by decide, in_X3, q1682, rfl, tyX3_ok, nmX3, tyX3_ok 2 (by decide), rfl⟩
theorem p_X3_19 : xfp RX3 19 3 3 (tyX3 3) false := ⟨_, _, _, tyX3, rfl, by decide, in_X3, q1683, rfl, tyX3_ok, nmX3, tyX3_ok 3 (by decide), rfl⟩
set_option maxHeartbeats 4000000 in
theorem t_within (l : Launch) (G : xG_T) (n : Nat) (hn : 103 ≤ n) (I : xI_T) (L : xL_T) (v : Int32) (lo : Int32) (hi : Int32)  : CM l 0 yX3_within cX3_within 3 (some .boolean) G n [.int v, .int lo, .int hi] I L (some (.int (inR v lo hi))) (I) (L) := by
  refine Cg.intro (cls := RX3) (pad := 0) (lv := [some (.int v), some (.int lo), some (.int hi)]) rfl (by decide) (Nat.le_of_ble_eq_true rfl) rfl (fun Θ h => ?_)
  refine x_iload_n h dX3_within_0 rfl ?_
  refine x_iload_n h dX3_within_1 rfl ?_
  refine x_icmp_lt h 14 dX3_within_2 rfl (fun c2 => ?_) (fun c2 => ?_)
  · skip
    refine x_iconst h dX3_within_14 (0) rfl ?_
    exact x_zret h dX3_within_15 rfl rfl (xpE.to (by subst_vars; first | with_reducible rfl | (simp only [inR, *]; done) | (simp only [inR, ix, *]; rfl) | (simp [inR, ix, up2_ap, bec_k, bec_i, *]; done)) (by subst_vars; first | with_reducible rfl | (simp only [inR, *]; done) | (simp only [inR, ix, *]; rfl) | (simp [inR, ix, up2_ap, bec_k, bec_i, *]; done)) rfl rfl)
  · skip
    refine x_iload_n h dX3_within_5 rfl ?_
    refine x_iload_n h dX3_within_6 rfl ?_
    refine x_icmp_gt h 14 dX3_within_7 rfl (fun c7 => ?_) (fun c7 => ?_)
    · skip
      refine x_iconst h dX3_within_14 (0) rfl ?_
      exact x_zret h dX3_within_15 rfl rfl (xpE.to (by subst_vars; first | with_reducible rfl | (simp only [inR, *]; done) | (simp only [inR, ix, *]; rfl) | (simp [inR, ix, up2_ap, bec_k, bec_i, *]; done)) (by subst_vars; first | with_reducible rfl | (simp only [inR, *]; done) | (simp only [inR, ix, *]; rfl) | (simp [inR, ix, up2_ap, bec_k, bec_i, *]; done)) rfl rfl)
    · skip
      refine x_iconst h dX3_within_10 (1) rfl ?_
      refine x_goto h 15 dX3_within_11 rfl ?_
      exact x_zret h dX3_within_15 rfl rfl (xpE.to (by subst_vars; first | with_reducible rfl | (simp only [inR, *]; done) | (simp only [inR, ix, *]; rfl) | (simp [inR, ix, up2_ap, bec_k, bec_i, *]; done)) (by subst_vars; first | with_reducible rfl | (simp only [inR, *]; done) | (simp only [inR, ix, *]; rfl) | (simp [inR, ix, up2_ap, bec_k, bec_i, *]; done)) rfl rfl)
set_option maxHeartbeats 4000000 in
theorem t_isShelf (l : Launch) (G : xG_T) (n : Nat) (hn : 103 ≤ n) (I : xI_T) (L : xL_T) (s : Int32)  : CM l 1 yX3_isShelf cX3_isShelf 1 (some .boolean) G n [.int s] I L (some (.int (inR s 0 5))) (I) (L) := by
  refine Cg.intro (cls := RX3) (pad := 0) (lv := [some (.int s)]) rfl (by decide) (Nat.le_of_ble_eq_true rfl) rfl (fun Θ h => ?_)
  refine x_iload_n h dX3_isShelf_0 rfl ?_
  refine x_iconst h dX3_isShelf_1 (0) rfl ?_
  refine x_iconst h dX3_isShelf_2 (5) rfl ?_
  refine x_callSEi h (As := [.int _, .int _, .int _]) (t_within l G n hn _ _ _ _ _ ) m_X3_119 dX3_isShelf_3 ⟨by decide, by decide⟩ ⟨by decide, by decide⟩ rfl (Nat.le_of_ble_eq_true rfl) ?_
  exact x_zret h dX3_isShelf_6 (nar01 inR_01) rfl (xpE.to rfl rfl rfl rfl)
set_option maxHeartbeats 4000000 in
theorem t_isBuyer (l : Launch) (G : xG_T) (n : Nat) (hn : 103 ≤ n) (I : xI_T) (L : xL_T) (b : Int32)  : CM l 1 yX3_isBuyer cX3_isBuyer 2 (some .boolean) G n [.ref (xb G + 70), .int b] I L (some (.int (m_isB I b))) (I) (L) := by
  refine Cg.intro (cls := RX3) (pad := 0) (lv := [some (.ref (xb G + 70)), some (.int b)]) rfl (by decide) (Nat.le_of_ble_eq_true rfl) rfl (fun Θ h => ?_)
  refine x_iload_n h dX3_isBuyer_0 rfl ?_
  refine x_iconst h dX3_isBuyer_1 (0) rfl ?_
  refine x_aload_n h dX3_isBuyer_2 rfl ?_
  refine x_geti h g_X3_116 (mlt hn rfl) rfl rfl dX3_isBuyer_3 ?_
  refine x_iconst h dX3_isBuyer_6 (1) rfl ?_
  refine x_isub h dX3_isBuyer_7 ?_
  refine x_callSEi h (As := [.int _, .int _, .int _]) (t_within l G n hn _ _ _ _ _ ) m_X3_119 dX3_isBuyer_8 ⟨by decide, by decide⟩ ⟨by decide, by decide⟩ rfl (Nat.le_of_ble_eq_true rfl) ?_
  exact x_zret h dX3_isBuyer_11 (nar01 inR_01) rfl (xpE.to rfl rfl rfl rfl)
set_option maxHeartbeats 4000000 in
theorem t_newBuyer (l : Launch) (G : xG_T) (n : Nat) (hn : 103 ≤ n) (I : xI_T) (L : xL_T) (p : Int32) (w : Int32) (q : Int32) (hb : vp_in (I 70 0) 8) : CM l 0 yX3_newBuyer cX3_newBuyer 4 (some .int) G n [.ref (xb G + 70), .int p, .int w, .int q] I L (some (.int (I 70 0))) (m_newBuyer I p w q) (L) := by
  refine Cg.intro (cls := RX3) (pad := 0) (lv := [some (.ref (xb G + 70)), some (.int p), some (.int w), some (.int q)]) rfl (by decide) (Nat.le_of_ble_eq_true rfl) rfl (fun Θ h => ?_)
  refine x_aload_n h dX3_newBuyer_0 rfl ?_
  refine x_getr h (j := 72) g_X3_22 (mlt hn rfl) rfl (by decide) rfl dX3_newBuyer_1 ?_
  refine x_aload_n h dX3_newBuyer_4 rfl ?_
  refine x_geti h g_X3_116 (mlt hn rfl) rfl rfl dX3_newBuyer_5 ?_
  refine x_iload_n h dX3_newBuyer_8 rfl ?_
  refine x_iast h (mlt hn rfl) rfl (by (try simp [up2_ap, cpy2_ap, fil2_ap]); exact xin_mono hb (by decide)) _ rfl dX3_newBuyer_9 (fun J9 eJ9 => ?_)
  refine x_aload_n h dX3_newBuyer_10 rfl ?_
  refine x_getr h (j := 71) g_X3_9 (mlt hn rfl) rfl (by decide) rfl dX3_newBuyer_11 ?_
  refine x_aload_n h dX3_newBuyer_14 rfl ?_
  refine x_geti h g_X3_116 (mlt hn rfl) rfl rfl dX3_newBuyer_15 ?_
  refine x_iload_n h dX3_newBuyer_18 rfl ?_
  refine x_iast h (mlt hn rfl) rfl (by (try simp [eJ9, up2_ap, cpy2_ap, fil2_ap]); exact xin_mono hb (by decide)) _ rfl dX3_newBuyer_19 (fun J19 eJ19 => ?_)
  refine x_aload_n h dX3_newBuyer_20 rfl ?_
  refine x_getr h (j := 71) g_X3_9 (mlt hn rfl) rfl (by decide) rfl dX3_newBuyer_21 ?_
  refine x_bipush h dX3_newBuyer_24 (8) rfl ?_
  refine x_aload_n h dX3_newBuyer_26 rfl ?_
  refine x_geti h g_X3_116 (mlt hn rfl) rfl rfl dX3_newBuyer_27 ?_
  refine x_iadd h dX3_newBuyer_30 ?_
  refine x_iload_n h dX3_newBuyer_31 rfl ?_
  refine x_iast h (mlt hn rfl) rfl (by (try simp [eJ9, eJ19, up2_ap, cpy2_ap, fil2_ap]); exact xin_c 8 rfl hb (by decide) (by decide)) _ rfl dX3_newBuyer_32 (fun J32 eJ32 => ?_)
  refine x_aload_n h dX3_newBuyer_33 rfl ?_
  refine x_dup h dX3_newBuyer_34 rfl ?_
  refine x_geti h g_X3_116 (mlt hn rfl) rfl rfl dX3_newBuyer_35 ?_
  refine x_dup_x1 h dX3_newBuyer_38 rfl rfl ?_
  refine x_iconst h dX3_newBuyer_39 (1) rfl ?_
  refine x_iadd h dX3_newBuyer_40 ?_
  refine x_puti h p_X3_116 (mlt hn rfl) rfl rfl rfl rfl dX3_newBuyer_41 (fun J41 eJ41 => ?_)
  exact x_iret h dX3_newBuyer_44 rfl (xpE.to (by subst_vars; first | with_reducible rfl | (simp only [m_newBuyer, *]; done) | (simp only [m_newBuyer, ix, *]; rfl) | (simp [m_newBuyer, ix, up2_ap, bec_k, bec_i, *]; done)) (by subst_vars; first | with_reducible rfl | (simp only [m_newBuyer, *]; done) | (simp only [m_newBuyer, ix, *]; rfl) | (simp [m_newBuyer, ix, up2_ap, bec_k, bec_i, *]; done)) rfl rfl)
set_option maxHeartbeats 4000000 in
theorem t_buyer (l : Launch) (G : xG_T) (n : Nat) (hn : 103 ≤ n) (I : xI_T) (L : xL_T) (w : Int32) (q : Int32) (hb : vp_in (I 70 0) 9) : CM l 2 yX3_buyer cX3_buyer 3 (some .int) G n [.ref (xb G + 70), .int w, .int q] I L (some (.int ((m_buyer I w q).1))) ((m_buyer I w q).2) (L) := by
  refine Cg.intro (cls := RX3) (pad := 0) (lv := [some (.ref (xb G + 70)), some (.int w), some (.int q)]) rfl (by decide) (Nat.le_of_ble_eq_true rfl) rfl (fun Θ h => ?_)
  refine x_iload_n h dX3_buyer_0 rfl ?_
  refine x_iconst h dX3_buyer_1 (0) rfl ?_
  refine x_bipush h dX3_buyer_2 (9) rfl ?_
  refine x_callSEi h (As := [.int _, .int _, .int _]) (t_within l G n hn _ _ _ _ _ ) m_X3_119 dX3_buyer_4 ⟨by decide, by decide⟩ ⟨by decide, by decide⟩ rfl (Nat.le_of_ble_eq_true rfl) ?_
  refine x_if_eq h 20 dX3_buyer_7 rfl (fun c7 => ?_) (fun c7 => ?_)
  · skip
    refine x_iconst h dX3_buyer_20 (-1) rfl ?_
    exact x_iret h dX3_buyer_21 rfl (xpE.to (by subst_vars; first | with_reducible rfl | (simp only [m_buyer, *]; done) | (simp only [m_buyer, ix, *]; rfl) | (simp [m_buyer, ix, up2_ap, bec_k, bec_i, *]; done)) (by subst_vars; first | with_reducible rfl | (simp only [m_buyer, *]; done) | (simp only [m_buyer, ix, *]; rfl) | (simp [m_buyer, ix, up2_ap, bec_k, bec_i, *]; done)) rfl rfl)
  · skip
    refine x_iload_n h dX3_buyer_10 rfl ?_
    refine x_iconst h dX3_buyer_11 (0) rfl ?_
    refine x_bipush h dX3_buyer_12 (9) rfl ?_
    refine x_callSEi h (As := [.int _, .int _, .int _]) (t_within l G n hn _ _ _ _ _ ) m_X3_119 dX3_buyer_14 ⟨by decide, by decide⟩ ⟨by decide, by decide⟩ rfl (Nat.le_of_ble_eq_true rfl) ?_
    refine x_if_ne h 22 dX3_buyer_17 rfl (fun c17 => ?_) (fun c17 => ?_)
    · skip
      refine x_aload_n h dX3_buyer_22 rfl ?_
      refine x_geti h g_X3_116 (mlt hn rfl) rfl rfl dX3_buyer_23 ?_
      refine x_bipush h dX3_buyer_26 (8) rfl ?_
      refine x_icmp_ne h 36 dX3_buyer_28 rfl (fun c28 => ?_) (fun c28 => ?_)
      · skip
        refine x_aload_n h dX3_buyer_36 rfl ?_
        refine x_bipush h dX3_buyer_37 (100) rfl ?_
        refine x_iload_n h dX3_buyer_39 rfl ?_
        refine x_iload_n h dX3_buyer_40 rfl ?_
        refine x_callVEi h (As := [.int _, .int _, .int _]) (t_newBuyer l G n hn _ _ _ _ _ (xin8 hb c28)) m_X3_123 (mlt hn rfl) rfl dX3_buyer_41 ⟨by decide, by decide⟩ ⟨by decide, by decide⟩ rfl (Nat.le_of_ble_eq_true rfl) ?_
        refine x_nmI (fun J41 eJ41 => ?_)
        exact x_iret h dX3_buyer_44 rfl (xpE.to (by subst_vars; first | with_reducible rfl | (simp only [m_buyer, *]; done) | (simp only [m_buyer, ix, *]; rfl) | (simp [m_buyer, ix, up2_ap, bec_k, bec_i, *]; done)) (by subst_vars; first | with_reducible rfl | (simp only [m_buyer, *]; done) | (simp only [m_buyer, ix, *]; rfl) | (simp [m_buyer, ix, up2_ap, bec_k, bec_i, *]; done)) rfl rfl)
      · skip
        refine x_bipush h dX3_buyer_31 (-3) rfl ?_
        refine x_goto h 44 dX3_buyer_33 rfl ?_
        exact x_iret h dX3_buyer_44 rfl (xpE.to (by subst_vars; first | with_reducible rfl | (simp only [m_buyer, *]; done) | (simp only [m_buyer, ix, *]; rfl) | (simp [m_buyer, ix, up2_ap, bec_k, bec_i, *]; done)) (by subst_vars; first | with_reducible rfl | (simp only [m_buyer, *]; done) | (simp only [m_buyer, ix, *]; rfl) | (simp [m_buyer, ix, up2_ap, bec_k, bec_i, *]; done)) rfl rfl)
    · skip
      refine x_iconst h dX3_buyer_20 (-1) rfl ?_
      exact x_iret h dX3_buyer_21 rfl (xpE.to (by subst_vars; first | with_reducible rfl | (simp only [m_buyer, *]; done) | (simp only [m_buyer, ix, *]; rfl) | (simp [m_buyer, ix, up2_ap, bec_k, bec_i, *]; done)) (by subst_vars; first | with_reducible rfl | (simp only [m_buyer, *]; done) | (simp only [m_buyer, ix, *]; rfl) | (simp [m_buyer, ix, up2_ap, bec_k, bec_i, *]; done)) rfl rfl)
set_option maxHeartbeats 4000000 in
theorem t_toldAt (l : Launch) (G : xG_T) (n : Nat) (hn : 103 ≤ n) (I : xI_T) (L : xL_T) (s : Int32) (i : Int32) (hi : vp_in (60 * s + i) 360) : CM l 0 yX3_toldAt cX3_toldAt 3 (some .int) G n [.ref (xb G + 70), .int s, .int i] I L (some (.int (m_told L s i))) (I) (L) := by
  refine Cg.intro (cls := RX3) (pad := 0) (lv := [some (.ref (xb G + 70)), some (.int s), some (.int i)]) rfl (by decide) (Nat.le_of_ble_eq_true rfl) rfl (fun Θ h => ?_)
  refine x_aload_n h dX3_toldAt_0 rfl ?_
  refine x_getr h (j := 92) g_X3_82 (mlt hn rfl) rfl (by decide) rfl dX3_toldAt_1 ?_
  refine x_bipush h dX3_toldAt_4 (60) rfl ?_
  refine x_iload_n h dX3_toldAt_6 rfl ?_
  refine x_imul h dX3_toldAt_7 ?_
  refine x_iload_n h dX3_toldAt_8 rfl ?_
  refine x_iadd h dX3_toldAt_9 ?_
  refine x_lald h (mlt hn rfl) rfl hi _ rfl dX3_toldAt_10 ?_
  refine x_l2i h dX3_toldAt_11 ?_
  exact x_iret h dX3_toldAt_12 rfl (xpE.to rfl rfl rfl rfl)
set_option maxHeartbeats 4000000 in
theorem t_isOf (l : Launch) (G : xG_T) (n : Nat) (hn : 103 ≤ n) (I : xI_T) (L : xL_T) (b : Int32) (w : Int32)  : CM l 2 yX3_isOf cX3_isOf 3 (some .boolean) G n [.ref (xb G + 70), .int b, .int w] I L (some (.int (m_isOf I b w))) (I) (L) := by
  refine Cg.intro (cls := RX3) (pad := 0) (lv := [some (.ref (xb G + 70)), some (.int b), some (.int w)]) rfl (by decide) (Nat.le_of_ble_eq_true rfl) rfl (fun Θ h => ?_)
  refine x_iload_n h dX3_isOf_0 rfl ?_
  refine x_iconst h dX3_isOf_1 (0) rfl ?_
  refine x_iconst h dX3_isOf_2 (3) rfl ?_
  refine x_callSEi h (As := [.int _, .int _, .int _]) (t_within l G n hn _ _ _ _ _ ) m_X3_119 dX3_isOf_3 ⟨by decide, by decide⟩ ⟨by decide, by decide⟩ rfl (Nat.le_of_ble_eq_true rfl) ?_
  refine x_if_eq h 17 dX3_isOf_6 rfl (fun c6 => ?_) (fun c6 => ?_)
  · skip
    refine x_iload_n h dX3_isOf_17 rfl ?_
    refine x_iconst h dX3_isOf_18 (4) rfl ?_
    refine x_bipush h dX3_isOf_19 (6) rfl ?_
    refine x_callSEi h (As := [.int _, .int _, .int _]) (t_within l G n hn _ _ _ _ _ ) m_X3_119 dX3_isOf_21 ⟨by decide, by decide⟩ ⟨by decide, by decide⟩ rfl (Nat.le_of_ble_eq_true rfl) ?_
    refine x_if_eq h 35 dX3_isOf_24 rfl (fun c24 => ?_) (fun c24 => ?_)
    · skip
      refine x_iconst h dX3_isOf_35 (0) rfl ?_
      exact x_zret h dX3_isOf_36 (by first | rfl | exact nar01 inR_01) rfl (xpE.to (by subst_vars; first | with_reducible rfl | (simp only [m_isOf, *]; done) | (simp only [m_isOf, ix, *]; rfl) | (simp [m_isOf, ix, up2_ap, bec_k, bec_i, *]; done)) (by subst_vars; first | with_reducible rfl | (simp only [m_isOf, *]; done) | (simp only [m_isOf, ix, *]; rfl) | (simp [m_isOf, ix, up2_ap, bec_k, bec_i, *]; done)) rfl rfl)
    · skip
      refine x_iload_n h dX3_isOf_27 rfl ?_
      refine x_if_ne h 35 dX3_isOf_28 rfl (fun c28 => ?_) (fun c28 => ?_)
      · skip
        refine x_iconst h dX3_isOf_35 (0) rfl ?_
        exact x_zret h dX3_isOf_36 (by first | rfl | exact nar01 inR_01) rfl (xpE.to (by subst_vars; first | with_reducible rfl | (simp only [m_isOf, *]; done) | (simp only [m_isOf, ix, *]; rfl) | (simp [m_isOf, ix, up2_ap, bec_k, bec_i, *]; done)) (by subst_vars; first | with_reducible rfl | (simp only [m_isOf, *]; done) | (simp only [m_isOf, ix, *]; rfl) | (simp [m_isOf, ix, up2_ap, bec_k, bec_i, *]; done)) rfl rfl)
      · skip
        refine x_iconst h dX3_isOf_31 (1) rfl ?_
        refine x_goto h 36 dX3_isOf_32 rfl ?_
        exact x_zret h dX3_isOf_36 (by first | rfl | exact nar01 inR_01) rfl (xpE.to (by subst_vars; first | with_reducible rfl | (simp only [m_isOf, *]; done) | (simp only [m_isOf, ix, *]; rfl) | (simp [m_isOf, ix, up2_ap, bec_k, bec_i, *]; done)) (by subst_vars; first | with_reducible rfl | (simp only [m_isOf, *]; done) | (simp only [m_isOf, ix, *]; rfl) | (simp [m_isOf, ix, up2_ap, bec_k, bec_i, *]; done)) rfl rfl)
  · skip
    refine x_aload_n h dX3_isOf_9 rfl ?_
    refine x_iload_n h dX3_isOf_10 rfl ?_
    refine x_callVEi h (As := [.int _]) (t_isBuyer l G n hn _ _ _ ) m_X3_137 (mlt hn rfl) rfl dX3_isOf_11 ⟨by decide, by decide⟩ ⟨by decide, by decide⟩ rfl (Nat.le_of_ble_eq_true rfl) ?_
    refine x_goto h 36 dX3_isOf_14 rfl ?_
    exact x_zret h dX3_isOf_36 (by first | rfl | exact nar01 inR_01) rfl (xpE.to (by subst_vars; first | with_reducible rfl | (simp only [m_isOf, *]; done) | (simp only [m_isOf, ix, *]; rfl) | (simp [m_isOf, ix, up2_ap, bec_k, bec_i, *]; done)) (by subst_vars; first | with_reducible rfl | (simp only [m_isOf, *]; done) | (simp only [m_isOf, ix, *]; rfl) | (simp [m_isOf, ix, up2_ap, bec_k, bec_i, *]; done)) rfl rfl)
set_option maxHeartbeats 4000000 in
theorem t_isFit (l : Launch) (G : xG_T) (n : Nat) (hn : 103 ≤ n) (I : xI_T) (L : xL_T) (w : Int32) (v : Int32)  : CM l 1 yX3_isFit cX3_isFit 2 (some .boolean) G n [.int w, .int v] I L (some (.int (m_fit w v))) (I) (L) := by
  refine Cg.intro (cls := RX3) (pad := 0) (lv := [some (.int w), some (.int v)]) rfl (by decide) (Nat.le_of_ble_eq_true rfl) rfl (fun Θ h => ?_)
  refine x_iload_n h dX3_isFit_0 rfl ?_
  by_cases s1_0 : w = 0
  · skip
    refine x_tabIn h 44 dX3_isFit_1 (by rw [s1_0]; decide) (by rw [s1_0]; decide) (by rw [s1_0]; rfl) rfl ?_
    refine x_iload_n h dX3_isFit_44 rfl ?_
    refine x_iconst h dX3_isFit_45 (0) rfl ?_
    refine x_sipush h dX3_isFit_46 (999) rfl ?_
    refine x_callSEi h (As := [.int _, .int _, .int _]) (t_within l G n hn _ _ _ _ _ ) m_X3_119 dX3_isFit_49 ⟨by decide, by decide⟩ ⟨by decide, by decide⟩ rfl (Nat.le_of_ble_eq_true rfl) ?_
    exact x_zret h dX3_isFit_52 (nar01 inR_01) rfl (xpE.to (by subst_vars; first | with_reducible rfl | (simp only [m_fit, *]; done) | (simp only [m_fit, ix, *]; rfl) | (simp [m_fit, ix, up2_ap, bec_k, bec_i, *]; done)) (by subst_vars; first | with_reducible rfl | (simp only [m_fit, *]; done) | (simp only [m_fit, ix, *]; rfl) | (simp [m_fit, ix, up2_ap, bec_k, bec_i, *]; done)) rfl rfl)
  by_cases s1_1 : w = 1
  · skip
    refine x_tabIn h 53 dX3_isFit_1 (by rw [s1_1]; decide) (by rw [s1_1]; decide) (by rw [s1_1]; rfl) rfl ?_
    refine x_iload_n h dX3_isFit_53 rfl ?_
    refine x_iconst h dX3_isFit_54 (0) rfl ?_
    refine x_bipush h dX3_isFit_55 (9) rfl ?_
    refine x_callSEi h (As := [.int _, .int _, .int _]) (t_within l G n hn _ _ _ _ _ ) m_X3_119 dX3_isFit_57 ⟨by decide, by decide⟩ ⟨by decide, by decide⟩ rfl (Nat.le_of_ble_eq_true rfl) ?_
    exact x_zret h dX3_isFit_60 (nar01 inR_01) rfl (xpE.to (by subst_vars; first | with_reducible rfl | (simp only [m_fit, *]; done) | (simp only [m_fit, ix, *]; rfl) | (simp [m_fit, ix, up2_ap, bec_k, bec_i, *]; done)) (by subst_vars; first | with_reducible rfl | (simp only [m_fit, *]; done) | (simp only [m_fit, ix, *]; rfl) | (simp [m_fit, ix, up2_ap, bec_k, bec_i, *]; done)) rfl rfl)
  by_cases s1_2 : w = 2
  · skip
    refine x_tabIn h 53 dX3_isFit_1 (by rw [s1_2]; decide) (by rw [s1_2]; decide) (by rw [s1_2]; rfl) rfl ?_
    refine x_iload_n h dX3_isFit_53 rfl ?_
    refine x_iconst h dX3_isFit_54 (0) rfl ?_
    refine x_bipush h dX3_isFit_55 (9) rfl ?_
    refine x_callSEi h (As := [.int _, .int _, .int _]) (t_within l G n hn _ _ _ _ _ ) m_X3_119 dX3_isFit_57 ⟨by decide, by decide⟩ ⟨by decide, by decide⟩ rfl (Nat.le_of_ble_eq_true rfl) ?_
    exact x_zret h dX3_isFit_60 (nar01 inR_01) rfl (xpE.to (by subst_vars; first | with_reducible rfl | (simp only [m_fit, *]; done) | (simp only [m_fit, ix, *]; rfl) | (simp [m_fit, ix, up2_ap, bec_k, bec_i, *]; done)) (by subst_vars; first | with_reducible rfl | (simp only [m_fit, *]; done) | (simp only [m_fit, ix, *]; rfl) | (simp [m_fit, ix, up2_ap, bec_k, bec_i, *]; done)) rfl rfl)
  by_cases s1_4 : w = 4
  · skip
    refine x_tabIn h 61 dX3_isFit_1 (by rw [s1_4]; decide) (by rw [s1_4]; decide) (by rw [s1_4]; rfl) rfl ?_
    refine x_iload_n h dX3_isFit_61 rfl ?_
    refine x_iconst h dX3_isFit_62 (1) rfl ?_
    refine x_iconst h dX3_isFit_63 (5) rfl ?_
    refine x_callSEi h (As := [.int _, .int _, .int _]) (t_within l G n hn _ _ _ _ _ ) m_X3_119 dX3_isFit_64 ⟨by decide, by decide⟩ ⟨by decide, by decide⟩ rfl (Nat.le_of_ble_eq_true rfl) ?_
    exact x_zret h dX3_isFit_67 (nar01 inR_01) rfl (xpE.to (by subst_vars; first | with_reducible rfl | (simp only [m_fit, *]; done) | (simp only [m_fit, ix, *]; rfl) | (simp [m_fit, ix, up2_ap, bec_k, bec_i, *]; done)) (by subst_vars; first | with_reducible rfl | (simp only [m_fit, *]; done) | (simp only [m_fit, ix, *]; rfl) | (simp [m_fit, ix, up2_ap, bec_k, bec_i, *]; done)) rfl rfl)
  by_cases s1_6 : w = 6
  · skip
    refine x_tabIn h 68 dX3_isFit_1 (by rw [s1_6]; decide) (by rw [s1_6]; decide) (by rw [s1_6]; rfl) rfl ?_
    refine x_iload_n h dX3_isFit_68 rfl ?_
    refine x_iconst h dX3_isFit_69 (0) rfl ?_
    refine x_bipush h dX3_isFit_70 (99) rfl ?_
    refine x_callSEi h (As := [.int _, .int _, .int _]) (t_within l G n hn _ _ _ _ _ ) m_X3_119 dX3_isFit_72 ⟨by decide, by decide⟩ ⟨by decide, by decide⟩ rfl (Nat.le_of_ble_eq_true rfl) ?_
    exact x_zret h dX3_isFit_75 (nar01 inR_01) rfl (xpE.to (by subst_vars; first | with_reducible rfl | (simp only [m_fit, *]; done) | (simp only [m_fit, ix, *]; rfl) | (simp [m_fit, ix, up2_ap, bec_k, bec_i, *]; done)) (by subst_vars; first | with_reducible rfl | (simp only [m_fit, *]; done) | (simp only [m_fit, ix, *]; rfl) | (simp [m_fit, ix, up2_ap, bec_k, bec_i, *]; done)) rfl rfl)
  refine x_tabD h 76 dX3_isFit_1 rfl (fun j hj => match j, hj with | 0, _ => Or.inr (xsw_ne s1_0 rfl) | 1, _ => Or.inr (xsw_ne s1_1 rfl) | 2, _ => Or.inr (xsw_ne s1_2 rfl) | 3, _ => Or.inl rfl | 4, _ => Or.inr (xsw_ne s1_4 rfl) | 5, _ => Or.inl rfl | 6, _ => Or.inr (xsw_ne s1_6 rfl) | j + 7, hj => absurd hj (by simp)) rfl ?_
  refine x_iload_n h dX3_isFit_76 rfl ?_
  refine x_iconst h dX3_isFit_77 (0) rfl ?_
  refine x_iconst h dX3_isFit_78 (1) rfl ?_
  refine x_callSEi h (As := [.int _, .int _, .int _]) (t_within l G n hn _ _ _ _ _ ) m_X3_119 dX3_isFit_79 ⟨by decide, by decide⟩ ⟨by decide, by decide⟩ rfl (Nat.le_of_ble_eq_true rfl) ?_
  exact x_zret h dX3_isFit_82 (nar01 inR_01) rfl (xpE.to (by subst_vars; first | with_reducible rfl | (simp only [m_fit, *]; done) | (simp only [m_fit, ix, *]; rfl) | (simp [m_fit, ix, up2_ap, bec_k, bec_i, *]; done)) (by subst_vars; first | with_reducible rfl | (simp only [m_fit, *]; done) | (simp only [m_fit, ix, *]; rfl) | (simp [m_fit, ix, up2_ap, bec_k, bec_i, *]; done)) rfl rfl)
set_option maxHeartbeats 4000000 in
theorem t_get (l : Launch) (G : xG_T) (n : Nat) (hn : 103 ≤ n) (I : xI_T) (L : xL_T) (b : Int32) (w : Int32) (hk : okw w b) : CM l 0 yX3_get cX3_get 3 (some .int) G n [.ref (xb G + 70), .int b, .int w] I L (some (.int (m_get I b w))) (I) (L) := by
  refine Cg.intro (cls := RX3) (pad := 0) (lv := [some (.ref (xb G + 70)), some (.int b), some (.int w)]) rfl (by decide) (Nat.le_of_ble_eq_true rfl) rfl (fun Θ h => ?_)
  refine x_iload_n h dX3_get_0 rfl ?_
  by_cases s1_0 : w = 0
  · skip
    refine x_tabIn h 44 dX3_get_1 (by rw [s1_0]; decide) (by rw [s1_0]; decide) (by rw [s1_0]; rfl) rfl ?_
    refine x_aload_n h dX3_get_44 rfl ?_
    refine x_getr h (j := 72) g_X3_22 (mlt hn rfl) rfl (by decide) rfl dX3_get_45 ?_
    refine x_iload_n h dX3_get_48 rfl ?_
    refine x_iald h (mlt hn rfl) rfl (xin_mono (okw_0 hk s1_0) (by decide)) _ rfl dX3_get_49 ?_
    exact x_iret h dX3_get_50 rfl (xpE.to (by subst_vars; first | with_reducible rfl | (simp only [m_get, *]; done) | (simp only [m_get, ix, *]; rfl) | (simp [m_get, ix, up2_ap, bec_k, bec_i, *]; done)) (by subst_vars; first | with_reducible rfl | (simp only [m_get, *]; done) | (simp only [m_get, ix, *]; rfl) | (simp [m_get, ix, up2_ap, bec_k, bec_i, *]; done)) rfl rfl)
  by_cases s1_4 : w = 4
  · skip
    refine x_tabIn h 51 dX3_get_1 (by rw [s1_4]; decide) (by rw [s1_4]; decide) (by rw [s1_4]; rfl) rfl ?_
    refine x_aload_n h dX3_get_51 rfl ?_
    refine x_geti h g_X3_15 (mlt hn rfl) rfl rfl dX3_get_52 ?_
    exact x_iret h dX3_get_55 rfl (xpE.to (by subst_vars; first | with_reducible rfl | (simp only [m_get, *]; done) | (simp only [m_get, ix, *]; rfl) | (simp [m_get, ix, up2_ap, bec_k, bec_i, *]; done)) (by subst_vars; first | with_reducible rfl | (simp only [m_get, *]; done) | (simp only [m_get, ix, *]; rfl) | (simp [m_get, ix, up2_ap, bec_k, bec_i, *]; done)) rfl rfl)
  by_cases s1_5 : w = 5
  · skip
    refine x_tabIn h 56 dX3_get_1 (by rw [s1_5]; decide) (by rw [s1_5]; decide) (by rw [s1_5]; rfl) rfl ?_
    refine x_aload_n h dX3_get_56 rfl ?_
    refine x_geti h g_X3_19 (mlt hn rfl) rfl rfl dX3_get_57 ?_
    exact x_iret h dX3_get_60 rfl (xpE.to (by subst_vars; first | with_reducible rfl | (simp only [m_get, *]; done) | (simp only [m_get, ix, *]; rfl) | (simp [m_get, ix, up2_ap, bec_k, bec_i, *]; done)) (by subst_vars; first | with_reducible rfl | (simp only [m_get, *]; done) | (simp only [m_get, ix, *]; rfl) | (simp [m_get, ix, up2_ap, bec_k, bec_i, *]; done)) rfl rfl)
  by_cases s1_6 : w = 6
  · skip
    refine x_tabIn h 61 dX3_get_1 (by rw [s1_6]; decide) (by rw [s1_6]; decide) (by rw [s1_6]; rfl) rfl ?_
    refine x_aload_n h dX3_get_61 rfl ?_
    refine x_getr h (j := 72) g_X3_22 (mlt hn rfl) rfl (by decide) rfl dX3_get_62 ?_
    refine x_bipush h dX3_get_65 (8) rfl ?_
    refine x_iald h (mlt hn rfl) rfl (xk rfl) 8 rfl dX3_get_67 ?_
    exact x_iret h dX3_get_68 rfl (xpE.to (by subst_vars; first | with_reducible rfl | (simp only [m_get, *]; done) | (simp only [m_get, ix, *]; rfl) | (simp [m_get, ix, up2_ap, bec_k, bec_i, *]; done)) (by subst_vars; first | with_reducible rfl | (simp only [m_get, *]; done) | (simp only [m_get, ix, *]; rfl) | (simp [m_get, ix, up2_ap, bec_k, bec_i, *]; done)) rfl rfl)
  refine x_tabD h 69 dX3_get_1 rfl (fun j hj => match j, hj with | 0, _ => Or.inr (xsw_ne s1_0 rfl) | 1, _ => Or.inl rfl | 2, _ => Or.inl rfl | 3, _ => Or.inl rfl | 4, _ => Or.inr (xsw_ne s1_4 rfl) | 5, _ => Or.inr (xsw_ne s1_5 rfl) | 6, _ => Or.inr (xsw_ne s1_6 rfl) | j + 7, hj => absurd hj (by simp)) rfl ?_
  refine x_aload_n h dX3_get_69 rfl ?_
  refine x_getr h (j := 71) g_X3_9 (mlt hn rfl) rfl (by decide) rfl dX3_get_70 ?_
  refine x_bipush h dX3_get_73 (8) rfl ?_
  refine x_iload_n h dX3_get_75 rfl ?_
  refine x_imul h dX3_get_76 ?_
  refine x_bipush h dX3_get_77 (8) rfl ?_
  refine x_isub h dX3_get_79 ?_
  refine x_iload_n h dX3_get_80 rfl ?_
  refine x_iadd h dX3_get_81 ?_
  refine x_iald h (mlt hn rfl) rfl (okw_i hk s1_0 s1_4 s1_5 s1_6) _ rfl dX3_get_82 ?_
  exact x_iret h dX3_get_83 rfl (xpE.to (by subst_vars; first | with_reducible rfl | (simp only [m_get, *]; done) | (simp only [m_get, ix, *]; rfl) | (simp [m_get, ix, up2_ap, bec_k, bec_i, *]; done)) (by subst_vars; first | with_reducible rfl | (simp only [m_get, *]; done) | (simp only [m_get, ix, *]; rfl) | (simp [m_get, ix, up2_ap, bec_k, bec_i, *]; done)) rfl rfl)
set_option maxHeartbeats 4000000 in
theorem t_becomes (l : Launch) (G : xG_T) (n : Nat) (hn : 103 ≤ n) (I : xI_T) (L : xL_T) (b : Int32) (w : Int32) (v : Int32) (hk : okw w b) : CM l 0 yX3_becomes cX3_becomes 4 (none) G n [.ref (xb G + 70), .int b, .int w, .int v] I L (none) (m_bec I b w v) (L) := by
  refine Cg.intro (cls := RX3) (pad := 0) (lv := [some (.ref (xb G + 70)), some (.int b), some (.int w), some (.int v)]) rfl (by decide) (Nat.le_of_ble_eq_true rfl) rfl (fun Θ h => ?_)
  refine x_iload_n h dX3_becomes_0 rfl ?_
  by_cases s1_0 : w = 0
  · skip
    refine x_tabIn h 44 dX3_becomes_1 (by rw [s1_0]; decide) (by rw [s1_0]; decide) (by rw [s1_0]; rfl) rfl ?_
    refine x_aload_n h dX3_becomes_44 rfl ?_
    refine x_getr h (j := 72) g_X3_22 (mlt hn rfl) rfl (by decide) rfl dX3_becomes_45 ?_
    refine x_iload_n h dX3_becomes_48 rfl ?_
    refine x_iload_n h dX3_becomes_49 rfl ?_
    refine x_iast h (mlt hn rfl) rfl (xin_mono (okw_0 hk s1_0) (by decide)) _ rfl dX3_becomes_50 (fun J50 eJ50 => ?_)
    refine x_goto h 96 dX3_becomes_51 rfl ?_
    exact x_vret h dX3_becomes_96 rfl (xpE.to (by subst_vars; first | with_reducible rfl | (simp only [m_bec, *]; done) | (simp only [m_bec, ix, *]; rfl) | (simp [m_bec, ix, up2_ap, bec_k, bec_i, *]; done)) (by subst_vars; first | with_reducible rfl | (simp only [m_bec, *]; done) | (simp only [m_bec, ix, *]; rfl) | (simp [m_bec, ix, up2_ap, bec_k, bec_i, *]; done)) rfl rfl)
  by_cases s1_4 : w = 4
  · skip
    refine x_tabIn h 54 dX3_becomes_1 (by rw [s1_4]; decide) (by rw [s1_4]; decide) (by rw [s1_4]; rfl) rfl ?_
    refine x_aload_n h dX3_becomes_54 rfl ?_
    refine x_iload_n h dX3_becomes_55 rfl ?_
    refine x_puti h p_X3_15 (mlt hn rfl) rfl rfl rfl rfl dX3_becomes_56 (fun J56 eJ56 => ?_)
    refine x_goto h 96 dX3_becomes_59 rfl ?_
    exact x_vret h dX3_becomes_96 rfl (xpE.to (by subst_vars; first | with_reducible rfl | (simp only [m_bec, *]; done) | (simp only [m_bec, ix, *]; rfl) | (simp [m_bec, ix, up2_ap, bec_k, bec_i, *]; done)) (by subst_vars; first | with_reducible rfl | (simp only [m_bec, *]; done) | (simp only [m_bec, ix, *]; rfl) | (simp [m_bec, ix, up2_ap, bec_k, bec_i, *]; done)) rfl rfl)
  by_cases s1_5 : w = 5
  · skip
    refine x_tabIn h 62 dX3_becomes_1 (by rw [s1_5]; decide) (by rw [s1_5]; decide) (by rw [s1_5]; rfl) rfl ?_
    refine x_aload_n h dX3_becomes_62 rfl ?_
    refine x_iload_n h dX3_becomes_63 rfl ?_
    refine x_puti h p_X3_19 (mlt hn rfl) rfl rfl rfl rfl dX3_becomes_64 (fun J64 eJ64 => ?_)
    refine x_goto h 96 dX3_becomes_67 rfl ?_
    exact x_vret h dX3_becomes_96 rfl (xpE.to (by subst_vars; first | with_reducible rfl | (simp only [m_bec, *]; done) | (simp only [m_bec, ix, *]; rfl) | (simp [m_bec, ix, up2_ap, bec_k, bec_i, *]; done)) (by subst_vars; first | with_reducible rfl | (simp only [m_bec, *]; done) | (simp only [m_bec, ix, *]; rfl) | (simp [m_bec, ix, up2_ap, bec_k, bec_i, *]; done)) rfl rfl)
  by_cases s1_6 : w = 6
  · skip
    refine x_tabIn h 70 dX3_becomes_1 (by rw [s1_6]; decide) (by rw [s1_6]; decide) (by rw [s1_6]; rfl) rfl ?_
    refine x_aload_n h dX3_becomes_70 rfl ?_
    refine x_getr h (j := 72) g_X3_22 (mlt hn rfl) rfl (by decide) rfl dX3_becomes_71 ?_
    refine x_bipush h dX3_becomes_74 (8) rfl ?_
    refine x_iload_n h dX3_becomes_76 rfl ?_
    refine x_iast h (mlt hn rfl) rfl (xk rfl) 8 rfl dX3_becomes_77 (fun J77 eJ77 => ?_)
    refine x_goto h 96 dX3_becomes_78 rfl ?_
    exact x_vret h dX3_becomes_96 rfl (xpE.to (by subst_vars; first | with_reducible rfl | (simp only [m_bec, *]; done) | (simp only [m_bec, ix, *]; rfl) | (simp [m_bec, ix, up2_ap, bec_k, bec_i, *]; done)) (by subst_vars; first | with_reducible rfl | (simp only [m_bec, *]; done) | (simp only [m_bec, ix, *]; rfl) | (simp [m_bec, ix, up2_ap, bec_k, bec_i, *]; done)) rfl rfl)
  refine x_tabD h 81 dX3_becomes_1 rfl (fun j hj => match j, hj with | 0, _ => Or.inr (xsw_ne s1_0 rfl) | 1, _ => Or.inl rfl | 2, _ => Or.inl rfl | 3, _ => Or.inl rfl | 4, _ => Or.inr (xsw_ne s1_4 rfl) | 5, _ => Or.inr (xsw_ne s1_5 rfl) | 6, _ => Or.inr (xsw_ne s1_6 rfl) | j + 7, hj => absurd hj (by simp)) rfl ?_
  refine x_aload_n h dX3_becomes_81 rfl ?_
  refine x_getr h (j := 71) g_X3_9 (mlt hn rfl) rfl (by decide) rfl dX3_becomes_82 ?_
  refine x_bipush h dX3_becomes_85 (8) rfl ?_
  refine x_iload_n h dX3_becomes_87 rfl ?_
  refine x_imul h dX3_becomes_88 ?_
  refine x_bipush h dX3_becomes_89 (8) rfl ?_
  refine x_isub h dX3_becomes_91 ?_
  refine x_iload_n h dX3_becomes_92 rfl ?_
  refine x_iadd h dX3_becomes_93 ?_
  refine x_iload_n h dX3_becomes_94 rfl ?_
  refine x_iast h (mlt hn rfl) rfl (okw_i hk s1_0 s1_4 s1_5 s1_6) _ rfl dX3_becomes_95 (fun J95 eJ95 => ?_)
  exact x_vret h dX3_becomes_96 rfl (xpE.to (by subst_vars; first | with_reducible rfl | (simp only [m_bec, *]; done) | (simp only [m_bec, ix, *]; rfl) | (simp [m_bec, ix, up2_ap, bec_k, bec_i, *]; done)) (by subst_vars; first | with_reducible rfl | (simp only [m_bec, *]; done) | (simp only [m_bec, ix, *]; rfl) | (simp [m_bec, ix, up2_ap, bec_k, bec_i, *]; done)) rfl rfl)
