/-! WALKS OF THE COMPONENT: readers -/
theorem m_X0_99 : xcv RX0 99 0 yX0_isOf cX0_isOf 3 (some .boolean) 2 := ⟨_, _, _, rfl, lw_V q337 q339 qs4 q99 q340, rfl, by decide +kernel, by decide +kernel, by decide +kernel⟩
theorem m_X0_106 : xcv RX0 106 0 yX0_valueOf cX0_valueOf 3 (some .int) 2 := ⟨_, _, _, rfl, lw_V q348 q350 qs6 q99 q351, rfl, by decide +kernel, by decide +kernel, by decide +kernel⟩
theorem g_X0_385 : xfg RX0 385 0 26 := ⟨_, _, _, rfl, by decide, in_X0, q734, rfl⟩
theorem g_X0_388 : xfg RX0 388 0 27 := ⟨_, _, _, rfl, by decide, in_X0, q735, rfl⟩
theorem g_X0_391 : xfg RX0 391 0 28 := ⟨_, _, _, rfl, by decide, in_X0, q736, rfl⟩
theorem g_X0_394 : xfg RX0 394 0 29 := ⟨_, _, _, rfl, by decide, in_X0, q737, rfl⟩
theorem g_X0_397 : xfg RX0 397 0 30 := ⟨_, _, _, rfl, by decide, in_X0, q738, rfl⟩
theorem g_X0_114 : xfg RX0 114 0 9 := ⟨_, _, _, rfl, by decide, in_X0, q717, rfl⟩
theorem g_X0_72 : xfg RX0 72 0 6 := ⟨_, _, _, rfl, by decide, in_X0, q712, rfl⟩
theorem g_X0_459 : xfg RX0 459 0 39 := ⟨_, _, _, rfl, by decide, in_X0, q748, rfl⟩
theorem g_X0_196 : xfg RX0 196 0 40 := ⟨_, _, _, rfl, by decide, in_X0, q750, rfl⟩
set_option maxHeartbeats 4000000 in
theorem k0_book (l : Launch) (G : xG_T) (n : Nat) (Ty : Nat → xs_T) (F : xF_T) (hC : WC n Ty F) (I : xI_T) (L : xL_T) (J : xI_T) (M : xL_T) (o w : Int32) (hT : TOP n Ty I L F J M) : CE l (2) yX0_book cX0_book 3 (some .int) G n Ty F [.ref (xb G + 0), .int o, .int w] I L (some (.int (m_book J o w))) (I) := by
  refine Cg.intro (cls := RX0) (pad := 0) (lv := [some (.ref (xb G + 0)), some (.int o), some (.int w)]) rfl (by decide) (Nat.le_of_ble_eq_true rfl) rfl (fun Θ h => ?_)
  have hQ := hT.Q
  have hI0 : I 0 1 = J 70 0 := hQ.1.1.1
  have hb := hQ.2.2.1.1
  obtain ⟨nb, hnb, enb, enx, hnI⟩ := hQ.nb
  have ekB : ∀ o : Int32, k_isB I o = m_isB J o := isB_k hI0
  have ⟨tC, tNU, tNO, tBY, tKL, tWW, tRB, tBU, tCH, tTA, tLE, tIM, tBO, tTR, tSH, tFR⟩ := hT
  obtain ⟨z, hz6, ez⟩ := vp_in_of tWW.1.2.2.2.1 (by decide)
  have h65 : I 6 5 = nI z := tNO.1.trans ez
  refine x_iload_n h dX0_book_0 rfl ?_
  refine x_if_lt h 13 dX0_book_1 rfl (fun c1 => ?_) (fun c1 => ?_)
  · skip
    have hz : m_book J o w = -1 := by unfold m_book; rw [if_pos c1]
    refine x_iconst h dX0_book_13 (-1) rfl ?_
    exact x_iret h dX0_book_14 rfl (xpE.to (by refine congrArg (fun z => some (Value.int z)) ?_; first | exact hz.symm | exact hz) rfl rfl rfl)
  · skip
    obtain ⟨k, hk31, rfl⟩ := nI_of c1
    refine x_iload_n h dX0_book_4 rfl ?_
    refine x_iconst h dX0_book_5 (0) rfl ?_
    refine x_iconst h dX0_book_6 (1) rfl ?_
    refine x_callSEi h (As := [.int _, .int _, .int _]) (k0_in l G n _ _ hC _ _ _ _ _ ) m_X0_7 dX0_book_7 ⟨by decide, by decide⟩ ⟨by decide, by decide⟩ rfl (Nat.le_of_ble_eq_true rfl) ?_
    refine x_if_ne h 15 dX0_book_10 rfl (fun c10 => ?_) (fun c10 => ?_)
    · skip
      refine x_iload_n h dX0_book_15 rfl ?_
      refine x_aload_n h dX0_book_16 rfl ?_
      refine x_getr h (j := 6) g_X0_170 (mlt hC.1 rfl) (hC.2.1 _ _ rfl) (by decide) (hC.2.2 _ _ _ rfl) dX0_book_17 ?_
      refine x_getiN h g_X0_252 (mlt hC.1 rfl) (hC.2.1 _ _ rfl) rfl dX0_book_20 ?_
      refine x_eqi (nI z) h65 ?_
      refine x_icmp_lt h 29 dX0_book_23 rfl (fun c23 => ?_) (fun c23 => ?_)
      · skip
        have hkz : k < z := (nI_ltI hk31 (by omega)).mp c23
        obtain ⟨o1, o2, -⟩ := tNO.2.2.2 k (by rw [ez, ix_n (by omega)]; exact hkz)
        have hz : m_book J (nI k) w = if w = 0 then J 72 (19 + k) else J 72 (25 + k) := by unfold m_book; rw [if_neg c1, if_neg c10, if_pos (by rw [ez]; exact c23)]; exact book_1 (by omega) c10
        refine x_iload_n h dX0_book_29 rfl ?_
        refine x_if_ne h 45 dX0_book_30 rfl (fun c30 => ?_) (fun c30 => ?_)
        · skip
          refine x_aload_n h dX0_book_45 rfl ?_
          refine x_getr h (j := 6) g_X0_170 (mlt hC.1 rfl) (hC.2.1 _ _ rfl) (by decide) (hC.2.2 _ _ _ rfl) dX0_book_46 ?_
          refine x_getrN h (j := 11) g_X0_258 (mlt hC.1 rfl) (hC.2.1 _ _ rfl) (by decide) (hC.2.2 _ _ _ rfl) dX0_book_49 ?_
          refine x_iload_n h dX0_book_52 rfl ?_
          refine x_iald h (mlt hC.1 rfl) (hC.2.1 _ _ rfl) (vp_in_nI (show k < 5 by omega) (by decide)) (k) (nI_clamp (by omega)) dX0_book_53 ?_
          exact x_iret h dX0_book_54 rfl (xpE.to (by refine congrArg (fun z => some (Value.int z)) ?_; rw [hz]; first | (rw [if_pos c30]; exact o1.symm) | (rw [if_neg c30]; exact o2.symm) | (rw [if_pos c30]; exact o1) | (rw [if_neg c30]; exact o2)) rfl rfl rfl)
        · skip
          refine x_aload_n h dX0_book_33 rfl ?_
          refine x_getr h (j := 6) g_X0_170 (mlt hC.1 rfl) (hC.2.1 _ _ rfl) (by decide) (hC.2.2 _ _ _ rfl) dX0_book_34 ?_
          refine x_getrN h (j := 10) g_X0_255 (mlt hC.1 rfl) (hC.2.1 _ _ rfl) (by decide) (hC.2.2 _ _ _ rfl) dX0_book_37 ?_
          refine x_iload_n h dX0_book_40 rfl ?_
          refine x_iald h (mlt hC.1 rfl) (hC.2.1 _ _ rfl) (vp_in_nI (show k < 5 by omega) (by decide)) (k) (nI_clamp (by omega)) dX0_book_41 ?_
          refine x_goto h 54 dX0_book_42 rfl ?_
          exact x_iret h dX0_book_54 rfl (xpE.to (by refine congrArg (fun z => some (Value.int z)) ?_; rw [hz]; first | (rw [if_pos c30]; exact o1.symm) | (rw [if_neg c30]; exact o2.symm) | (rw [if_pos c30]; exact o1) | (rw [if_neg c30]; exact o2)) rfl rfl rfl)
      · skip
        have hz : m_book J (nI k) w = -2 := by unfold m_book; rw [if_neg c1, if_neg c10, if_neg (by rw [ez]; exact c23)]
        refine x_bipush h dX0_book_26 (-2) rfl ?_
        exact x_iret h dX0_book_28 rfl (xpE.to (by refine congrArg (fun z => some (Value.int z)) ?_; first | exact hz.symm | exact hz) rfl rfl rfl)
    · skip
      have hz : m_book J (nI k) w = -1 := by unfold m_book; rw [if_neg c1, if_pos c10]
      refine x_iconst h dX0_book_13 (-1) rfl ?_
      exact x_iret h dX0_book_14 rfl (xpE.to (by refine congrArg (fun z => some (Value.int z)) ?_; first | exact hz.symm | exact hz) rfl rfl rfl)
set_option maxHeartbeats 4000000 in
theorem k0_isOf (l : Launch) (G : xG_T) (n : Nat) (Ty : Nat → xs_T) (F : xF_T) (hC : WC n Ty F) (I : xI_T) (L : xL_T) (J : xI_T) (o w : Int32) (hI0 : I 0 1 = J 70 0) : CE l (2) yX0_isOf cX0_isOf 3 (some .boolean) G n Ty F [.ref (xb G + 0), .int o, .int w] I L (some (.int (m_isOf J o w))) (I) := by
  refine Cg.intro (cls := RX0) (pad := 0) (lv := [some (.ref (xb G + 0)), some (.int o), some (.int w)]) rfl (by decide) (Nat.le_of_ble_eq_true rfl) rfl (fun Θ h => ?_)
  have ekB : ∀ o : Int32, k_isB I o = m_isB J o := isB_k hI0
  refine x_iload_n h dX0_isOf_0 rfl ?_
  refine x_iconst h dX0_isOf_1 (0) rfl ?_
  refine x_iconst h dX0_isOf_2 (3) rfl ?_
  refine x_callSEi h (As := [.int _, .int _, .int _]) (k0_in l G n _ _ hC _ _ _ _ _ ) m_X0_7 dX0_isOf_3 ⟨by decide, by decide⟩ ⟨by decide, by decide⟩ rfl (Nat.le_of_ble_eq_true rfl) ?_
  refine x_if_eq h 17 dX0_isOf_6 rfl (fun c6 => ?_) (fun c6 => ?_)
  · skip
    refine x_iload_n h dX0_isOf_17 rfl ?_
    refine x_iconst h dX0_isOf_18 (4) rfl ?_
    refine x_bipush h dX0_isOf_19 (6) rfl ?_
    refine x_callSEi h (As := [.int _, .int _, .int _]) (k0_in l G n _ _ hC _ _ _ _ _ ) m_X0_7 dX0_isOf_21 ⟨by decide, by decide⟩ ⟨by decide, by decide⟩ rfl (Nat.le_of_ble_eq_true rfl) ?_
    refine x_if_eq h 35 dX0_isOf_24 rfl (fun c24 => ?_) (fun c24 => ?_)
    · skip
      refine x_iconst h dX0_isOf_35 (0) rfl ?_
      exact x_zret h dX0_isOf_36 (by first | rfl | exact nar01 inR_01) rfl (xpE.to (by refine congrArg (fun z => some (Value.int z)) ?_; unfold m_isOf; first | (rw [if_pos c6, ekB]; done) | (rw [if_neg (fun z => z c6), if_pos c24]; done) | (rw [if_neg (fun z => z c6), if_neg c24, if_pos c28]; done) | (rw [if_neg (fun z => z c6), if_neg c24, if_neg c28]; done)) rfl rfl rfl)
    · skip
      refine x_iload_n h dX0_isOf_27 rfl ?_
      refine x_if_ne h 35 dX0_isOf_28 rfl (fun c28 => ?_) (fun c28 => ?_)
      · skip
        refine x_iconst h dX0_isOf_35 (0) rfl ?_
        exact x_zret h dX0_isOf_36 (by first | rfl | exact nar01 inR_01) rfl (xpE.to (by refine congrArg (fun z => some (Value.int z)) ?_; unfold m_isOf; first | (rw [if_pos c6, ekB]; done) | (rw [if_neg (fun z => z c6), if_pos c24]; done) | (rw [if_neg (fun z => z c6), if_neg c24, if_pos c28]; done) | (rw [if_neg (fun z => z c6), if_neg c24, if_neg c28]; done)) rfl rfl rfl)
      · skip
        refine x_iconst h dX0_isOf_31 (1) rfl ?_
        refine x_goto h 36 dX0_isOf_32 rfl ?_
        exact x_zret h dX0_isOf_36 (by first | rfl | exact nar01 inR_01) rfl (xpE.to (by refine congrArg (fun z => some (Value.int z)) ?_; unfold m_isOf; first | (rw [if_pos c6, ekB]; done) | (rw [if_neg (fun z => z c6), if_pos c24]; done) | (rw [if_neg (fun z => z c6), if_neg c24, if_pos c28]; done) | (rw [if_neg (fun z => z c6), if_neg c24, if_neg c28]; done)) rfl rfl rfl)
  · skip
    refine x_aload_n h dX0_isOf_9 rfl ?_
    refine x_iload_n h dX0_isOf_10 rfl ?_
    refine x_callVEi h (As := [.int _]) (k0_isBuyer l G n _ _ hC _ _ _ ) m_X0_11 (mlt hC.1 rfl) (hC.2.1 _ _ rfl) dX0_isOf_11 ⟨by decide, by decide⟩ ⟨by decide, by decide⟩ rfl (Nat.le_of_ble_eq_true rfl) ?_
    refine x_goto h 36 dX0_isOf_14 rfl ?_
    exact x_zret h dX0_isOf_36 (by first | rfl | exact nar01 inR_01) rfl (xpE.to (by refine congrArg (fun z => some (Value.int z)) ?_; unfold m_isOf; first | (rw [if_pos c6, ekB]; done) | (rw [if_neg (fun z => z c6), if_pos c24]; done) | (rw [if_neg (fun z => z c6), if_neg c24, if_pos c28]; done) | (rw [if_neg (fun z => z c6), if_neg c24, if_neg c28]; done)) rfl rfl rfl)
set_option maxHeartbeats 4000000 in
theorem k0_valueOf (l : Launch) (G : xG_T) (n : Nat) (Ty : Nat → xs_T) (F : xF_T) (hC : WC n Ty F) (I : xI_T) (L : xL_T) (J : xI_T) (o w : Int32) (hN : NUM I J) (hB : BUY n Ty I F J) (hW : WW J) (ho : ¬ m_isOf J o w = 0) : CE l (2) yX0_valueOf cX0_valueOf 3 (some .int) G n Ty F [.ref (xb G + 0), .int o, .int w] I L (some (.int (m_get J o w))) (I) := by
  refine Cg.intro (cls := RX0) (pad := 0) (lv := [some (.ref (xb G + 0)), some (.int o), some (.int w)]) rfl (by decide) (Nat.le_of_ble_eq_true rfl) rfl (fun Θ h => ?_)
  refine x_iload_n h dX0_valueOf_0 rfl ?_
  by_cases s1_0 : w = 0
  · skip
    refine x_tabIn h 40 dX0_valueOf_1 (by rw [s1_0]; decide) (by rw [s1_0]; decide) (by rw [s1_0]; rfl) rfl ?_
    have h4 := isOf_b hW.1.1 ho (by rw [s1_0]; decide)
    obtain ⟨y, hy, hy8, ey⟩ := h4
    obtain ⟨q, hq, ⟨-, hqn⟩, hqT, b0, b1, b2, b3, -⟩ := hB y hy
    obtain ⟨g1, g2, g3, g0⟩ := get_1 (J := J) hy8
    refine x_aload_n h dX0_valueOf_40 rfl ?_
    refine x_getr h (j := 1) g_X0_15 (mlt hC.1 rfl) (hC.2.1 _ _ rfl) (by decide) (hC.2.2 _ _ _ rfl) dX0_valueOf_41 ?_
    refine x_iload_n h dX0_valueOf_44 rfl ?_
    refine x_eqi (nI y) ey ?_
    refine x_aaldr h (q := q) (mlt hC.1 rfl) (hC.2.1 _ _ rfl) (by decide) rfl rfl (vp_in_nI hy8 (by decide)) (y) (nI_clamp (by omega)) hq dX0_valueOf_45 ?_
    refine x_getiN h g_X0_42 hqn hqT rfl dX0_valueOf_46 ?_
    exact x_iret h dX0_valueOf_49 rfl (xpE.to (by refine congrArg (fun z => some (Value.int z)) ?_; rw [s1_0, ey]; exact b0.trans g0.symm) rfl rfl rfl)
  by_cases s1_1 : w = 1
  · skip
    refine x_tabIn h 50 dX0_valueOf_1 (by rw [s1_1]; decide) (by rw [s1_1]; decide) (by rw [s1_1]; rfl) rfl ?_
    have h4 := isOf_b hW.1.1 ho (by rw [s1_1]; decide)
    obtain ⟨y, hy, hy8, ey⟩ := h4
    obtain ⟨q, hq, ⟨-, hqn⟩, hqT, b0, b1, b2, b3, -⟩ := hB y hy
    obtain ⟨g1, g2, g3, g0⟩ := get_1 (J := J) hy8
    refine x_aload_n h dX0_valueOf_50 rfl ?_
    refine x_getr h (j := 1) g_X0_15 (mlt hC.1 rfl) (hC.2.1 _ _ rfl) (by decide) (hC.2.2 _ _ _ rfl) dX0_valueOf_51 ?_
    refine x_iload_n h dX0_valueOf_54 rfl ?_
    refine x_eqi (nI y) ey ?_
    refine x_aaldr h (q := q) (mlt hC.1 rfl) (hC.2.1 _ _ rfl) (by decide) rfl rfl (vp_in_nI hy8 (by decide)) (y) (nI_clamp (by omega)) hq dX0_valueOf_55 ?_
    refine x_getiN h g_X0_51 hqn hqT rfl dX0_valueOf_56 ?_
    exact x_iret h dX0_valueOf_59 rfl (xpE.to (by refine congrArg (fun z => some (Value.int z)) ?_; rw [s1_1, ey]; exact b1.trans g1.symm) rfl rfl rfl)
  by_cases s1_2 : w = 2
  · skip
    refine x_tabIn h 60 dX0_valueOf_1 (by rw [s1_2]; decide) (by rw [s1_2]; decide) (by rw [s1_2]; rfl) rfl ?_
    have h4 := isOf_b hW.1.1 ho (by rw [s1_2]; decide)
    obtain ⟨y, hy, hy8, ey⟩ := h4
    obtain ⟨q, hq, ⟨-, hqn⟩, hqT, b0, b1, b2, b3, -⟩ := hB y hy
    obtain ⟨g1, g2, g3, g0⟩ := get_1 (J := J) hy8
    refine x_aload_n h dX0_valueOf_60 rfl ?_
    refine x_getr h (j := 1) g_X0_15 (mlt hC.1 rfl) (hC.2.1 _ _ rfl) (by decide) (hC.2.2 _ _ _ rfl) dX0_valueOf_61 ?_
    refine x_iload_n h dX0_valueOf_64 rfl ?_
    refine x_eqi (nI y) ey ?_
    refine x_aaldr h (q := q) (mlt hC.1 rfl) (hC.2.1 _ _ rfl) (by decide) rfl rfl (vp_in_nI hy8 (by decide)) (y) (nI_clamp (by omega)) hq dX0_valueOf_65 ?_
    refine x_getiN h g_X0_54 hqn hqT rfl dX0_valueOf_66 ?_
    exact x_iret h dX0_valueOf_69 rfl (xpE.to (by refine congrArg (fun z => some (Value.int z)) ?_; rw [s1_2, ey]; exact b2.trans g2.symm) rfl rfl rfl)
  by_cases s1_3 : w = 3
  · skip
    refine x_tabIn h 70 dX0_valueOf_1 (by rw [s1_3]; decide) (by rw [s1_3]; decide) (by rw [s1_3]; rfl) rfl ?_
    have h4 := isOf_b hW.1.1 ho (by rw [s1_3]; decide)
    obtain ⟨y, hy, hy8, ey⟩ := h4
    obtain ⟨q, hq, ⟨-, hqn⟩, hqT, b0, b1, b2, b3, -⟩ := hB y hy
    obtain ⟨g1, g2, g3, g0⟩ := get_1 (J := J) hy8
    refine x_aload_n h dX0_valueOf_70 rfl ?_
    refine x_getr h (j := 1) g_X0_15 (mlt hC.1 rfl) (hC.2.1 _ _ rfl) (by decide) (hC.2.2 _ _ _ rfl) dX0_valueOf_71 ?_
    refine x_iload_n h dX0_valueOf_74 rfl ?_
    refine x_eqi (nI y) ey ?_
    refine x_aaldr h (q := q) (mlt hC.1 rfl) (hC.2.1 _ _ rfl) (by decide) rfl rfl (vp_in_nI hy8 (by decide)) (y) (nI_clamp (by omega)) hq dX0_valueOf_75 ?_
    refine x_getiN h g_X0_57 hqn hqT rfl dX0_valueOf_76 ?_
    exact x_iret h dX0_valueOf_79 rfl (xpE.to (by refine congrArg (fun z => some (Value.int z)) ?_; rw [s1_3, ey]; exact b3.trans g3.symm) rfl rfl rfl)
  by_cases s1_4 : w = 4
  · skip
    refine x_tabIn h 80 dX0_valueOf_1 (by rw [s1_4]; decide) (by rw [s1_4]; decide) (by rw [s1_4]; rfl) rfl ?_
    refine x_aload_n h dX0_valueOf_80 rfl ?_
    refine x_geti h g_X0_60 (mlt hC.1 rfl) (hC.2.1 _ _ rfl) rfl dX0_valueOf_81 ?_
    exact x_iret h dX0_valueOf_84 rfl (xpE.to (by refine congrArg (fun z => some (Value.int z)) ?_; rw [s1_4]; exact hN.2.1) rfl rfl rfl)
  by_cases s1_5 : w = 5
  · skip
    refine x_tabIn h 85 dX0_valueOf_1 (by rw [s1_5]; decide) (by rw [s1_5]; decide) (by rw [s1_5]; rfl) rfl ?_
    refine x_aload_n h dX0_valueOf_85 rfl ?_
    refine x_geti h g_X0_63 (mlt hC.1 rfl) (hC.2.1 _ _ rfl) rfl dX0_valueOf_86 ?_
    exact x_iret h dX0_valueOf_89 rfl (xpE.to (by refine congrArg (fun z => some (Value.int z)) ?_; rw [s1_5]; exact hN.2.2.2.1) rfl rfl rfl)
  refine x_tabD h 90 dX0_valueOf_1 rfl (fun j hj => match j, hj with | 0, _ => Or.inr (xsw_ne s1_0 rfl) | 1, _ => Or.inr (xsw_ne s1_1 rfl) | 2, _ => Or.inr (xsw_ne s1_2 rfl) | 3, _ => Or.inr (xsw_ne s1_3 rfl) | 4, _ => Or.inr (xsw_ne s1_4 rfl) | 5, _ => Or.inr (xsw_ne s1_5 rfl) | j + 6, hj => absurd hj (by simp)) rfl ?_
  refine x_aload_n h dX0_valueOf_90 rfl ?_
  refine x_geti h g_X0_66 (mlt hC.1 rfl) (hC.2.1 _ _ rfl) rfl dX0_valueOf_91 ?_
  exact x_iret h dX0_valueOf_94 rfl (xpE.to (by refine congrArg (fun z => some (Value.int z)) ?_; rw [(isOf_6 hW.1.1 ho s1_0 s1_1 s1_2 s1_3 s1_4 s1_5).1]; exact hN.2.2.1) rfl rfl rfl)
set_option maxHeartbeats 4000000 in
theorem k0_of (l : Launch) (G : xG_T) (n : Nat) (Ty : Nat → xs_T) (F : xF_T) (hC : WC n Ty F) (I : xI_T) (L : xL_T) (J : xI_T) (M : xL_T) (o w : Int32) (hT : TOP n Ty I L F J M) : CE l (3) yX0_of cX0_of 3 (some .int) G n Ty F [.ref (xb G + 0), .int o, .int w] I L (some (.int (m_of J o w))) (I) := by
  refine Cg.intro (cls := RX0) (pad := 0) (lv := [some (.ref (xb G + 0)), some (.int o), some (.int w)]) rfl (by decide) (Nat.le_of_ble_eq_true rfl) rfl (fun Θ h => ?_)
  have hQ := hT.Q
  have hI0 : I 0 1 = J 70 0 := hQ.1.1.1
  have hb := hQ.2.2.1.1
  obtain ⟨nb, hnb, enb, enx, hnI⟩ := hQ.nb
  have ekB : ∀ o : Int32, k_isB I o = m_isB J o := isB_k hI0
  have ⟨tC, tNU, tNO, tBY, tKL, tWW, tRB, tBU, tCH, tTA, tLE, tIM, tBO, tTR, tSH, tFR⟩ := hT
  refine x_aload_n h dX0_of_0 rfl ?_
  refine x_iload_n h dX0_of_1 rfl ?_
  refine x_iload_n h dX0_of_2 rfl ?_
  refine x_callVEi h (As := [.int _, .int _]) (k0_isOf l G n _ _ hC _ _ J o w hI0) m_X0_99 (mlt hC.1 rfl) (hC.2.1 _ _ rfl) dX0_of_3 ⟨by decide, by decide⟩ ⟨by decide, by decide⟩ rfl (Nat.le_of_ble_eq_true rfl) ?_
  refine x_if_eq h 18 dX0_of_6 rfl (fun c6 => ?_) (fun c6 => ?_)
  · skip
    refine x_iconst h dX0_of_18 (-1) rfl ?_
    exact x_iret h dX0_of_19 rfl (xpE.to (by refine congrArg (fun z => some (Value.int z)) ?_; unfold m_of; first | (rw [if_pos c6]; done) | (rw [if_neg c6]; done)) rfl rfl rfl)
  · skip
    refine x_aload_n h dX0_of_9 rfl ?_
    refine x_iload_n h dX0_of_10 rfl ?_
    refine x_iload_n h dX0_of_11 rfl ?_
    refine x_callVEi h (As := [.int _, .int _]) (k0_valueOf l G n _ _ hC _ _ J o w tNU tBY tWW c6) m_X0_106 (mlt hC.1 rfl) (hC.2.1 _ _ rfl) dX0_of_12 ⟨by decide, by decide⟩ ⟨by decide, by decide⟩ rfl (Nat.le_of_ble_eq_true rfl) ?_
    refine x_goto h 19 dX0_of_15 rfl ?_
    exact x_iret h dX0_of_19 rfl (xpE.to (by refine congrArg (fun z => some (Value.int z)) ?_; unfold m_of; first | (rw [if_pos c6]; done) | (rw [if_neg c6]; done)) rfl rfl rfl)
set_option maxHeartbeats 4000000 in
theorem k0_led (l : Launch) (G : xG_T) (n : Nat) (Ty : Nat → xs_T) (F : xF_T) (hC : WC n Ty F) (I : xI_T) (L : xL_T) (J : xI_T) (M : xL_T) (w : Int32) (hT : TOP n Ty I L F J M) : CE l (2) yX0_led cX0_led 2 (some .int) G n Ty F [.ref (xb G + 0), .int w] I L (some (.int (m_led J w))) (I) := by
  refine Cg.intro (cls := RX0) (pad := 0) (lv := [some (.ref (xb G + 0)), some (.int w)]) rfl (by decide) (Nat.le_of_ble_eq_true rfl) rfl (fun Θ h => ?_)
  have hQ := hT.Q
  have hI0 : I 0 1 = J 70 0 := hQ.1.1.1
  have hb := hQ.2.2.1.1
  obtain ⟨nb, hnb, enb, enx, hnI⟩ := hQ.nb
  have ekB : ∀ o : Int32, k_isB I o = m_isB J o := isB_k hI0
  have ⟨tC, tNU, tNO, tBY, tKL, tWW, tRB, tBU, tCH, tTA, tLE, tIM, tBO, tTR, tSH, tFR⟩ := hT
  obtain ⟨l0, l1, l2, l3, l4⟩ := tLE
  refine x_iload_n h dX0_led_0 rfl ?_
  by_cases s1_0 : w = 0
  · skip
    refine x_tabIn h 36 dX0_led_1 (by rw [s1_0]; decide) (by rw [s1_0]; decide) (by rw [s1_0]; rfl) rfl ?_
    refine x_aload_n h dX0_led_36 rfl ?_
    refine x_geti h g_X0_385 (mlt hC.1 rfl) (hC.2.1 _ _ rfl) rfl dX0_led_37 ?_
    exact x_iret h dX0_led_40 rfl (xpE.to (by refine congrArg (fun z => some (Value.int z)) ?_; rw [s1_0]; show _ = if inR 0 0 4 = 0 then -1 else J 84 (ix 0); rw [if_neg (by decide)]; exact l0) rfl rfl rfl)
  by_cases s1_1 : w = 1
  · skip
    refine x_tabIn h 41 dX0_led_1 (by rw [s1_1]; decide) (by rw [s1_1]; decide) (by rw [s1_1]; rfl) rfl ?_
    refine x_aload_n h dX0_led_41 rfl ?_
    refine x_geti h g_X0_388 (mlt hC.1 rfl) (hC.2.1 _ _ rfl) rfl dX0_led_42 ?_
    exact x_iret h dX0_led_45 rfl (xpE.to (by refine congrArg (fun z => some (Value.int z)) ?_; rw [s1_1]; show _ = if inR 1 0 4 = 0 then -1 else J 84 (ix 1); rw [if_neg (by decide)]; exact l1) rfl rfl rfl)
  by_cases s1_2 : w = 2
  · skip
    refine x_tabIn h 46 dX0_led_1 (by rw [s1_2]; decide) (by rw [s1_2]; decide) (by rw [s1_2]; rfl) rfl ?_
    refine x_aload_n h dX0_led_46 rfl ?_
    refine x_geti h g_X0_391 (mlt hC.1 rfl) (hC.2.1 _ _ rfl) rfl dX0_led_47 ?_
    exact x_iret h dX0_led_50 rfl (xpE.to (by refine congrArg (fun z => some (Value.int z)) ?_; rw [s1_2]; show _ = if inR 2 0 4 = 0 then -1 else J 84 (ix 2); rw [if_neg (by decide)]; exact l2) rfl rfl rfl)
  by_cases s1_3 : w = 3
  · skip
    refine x_tabIn h 51 dX0_led_1 (by rw [s1_3]; decide) (by rw [s1_3]; decide) (by rw [s1_3]; rfl) rfl ?_
    refine x_aload_n h dX0_led_51 rfl ?_
    refine x_geti h g_X0_394 (mlt hC.1 rfl) (hC.2.1 _ _ rfl) rfl dX0_led_52 ?_
    exact x_iret h dX0_led_55 rfl (xpE.to (by refine congrArg (fun z => some (Value.int z)) ?_; rw [s1_3]; show _ = if inR 3 0 4 = 0 then -1 else J 84 (ix 3); rw [if_neg (by decide)]; exact l3) rfl rfl rfl)
  by_cases s1_4 : w = 4
  · skip
    refine x_tabIn h 56 dX0_led_1 (by rw [s1_4]; decide) (by rw [s1_4]; decide) (by rw [s1_4]; rfl) rfl ?_
    refine x_aload_n h dX0_led_56 rfl ?_
    refine x_geti h g_X0_397 (mlt hC.1 rfl) (hC.2.1 _ _ rfl) rfl dX0_led_57 ?_
    exact x_iret h dX0_led_60 rfl (xpE.to (by refine congrArg (fun z => some (Value.int z)) ?_; rw [s1_4]; show _ = if inR 4 0 4 = 0 then -1 else J 84 (ix 4); rw [if_neg (by decide)]; exact l4) rfl rfl rfl)
  refine x_tabD h 61 dX0_led_1 rfl (fun j hj => match j, hj with | 0, _ => Or.inr (xsw_ne s1_0 rfl) | 1, _ => Or.inr (xsw_ne s1_1 rfl) | 2, _ => Or.inr (xsw_ne s1_2 rfl) | 3, _ => Or.inr (xsw_ne s1_3 rfl) | 4, _ => Or.inr (xsw_ne s1_4 rfl) | j + 5, hj => absurd hj (by simp)) rfl ?_
  refine x_iconst h dX0_led_61 (-1) rfl ?_
  exact x_iret h dX0_led_62 rfl (xpE.to (by refine congrArg (fun z => some (Value.int z)) ?_; unfold m_led; rw [if_pos (led_d s1_0 s1_1 s1_2 s1_3 s1_4)]) rfl rfl rfl)
set_option maxHeartbeats 4000000 in
theorem k0_count (l : Launch) (G : xG_T) (n : Nat) (Ty : Nat → xs_T) (F : xF_T) (hC : WC n Ty F) (I : xI_T) (L : xL_T) (J : xI_T) (M : xL_T) (w : Int32) (hT : TOP n Ty I L F J M) : CE l (2) yX0_count cX0_count 2 (some .int) G n Ty F [.ref (xb G + 0), .int w] I L (some (.int (m_count J w))) (I) := by
  refine Cg.intro (cls := RX0) (pad := 0) (lv := [some (.ref (xb G + 0)), some (.int w)]) rfl (by decide) (Nat.le_of_ble_eq_true rfl) rfl (fun Θ h => ?_)
  have hQ := hT.Q
  have hI0 : I 0 1 = J 70 0 := hQ.1.1.1
  have hb := hQ.2.2.1.1
  obtain ⟨nb, hnb, enb, enx, hnI⟩ := hQ.nb
  have ekB : ∀ o : Int32, k_isB I o = m_isB J o := isB_k hI0
  have ⟨tC, tNU, tNO, tBY, tKL, tWW, tRB, tBU, tCH, tTA, tLE, tIM, tBO, tTR, tSH, tFR⟩ := hT
  obtain ⟨d9, u9, ⟨ch1, ch2, ch3, ch4, ch5⟩, -⟩ := tCH
  obtain ⟨t9, -, ta1, ta2, -⟩ := tTA
  obtain ⟨m9, ⟨-, bo1, bo2⟩, -⟩ := tBO
  obtain ⟨tr9, -, tr1, tr2, -⟩ := tTR
  refine x_iload_n h dX0_count_0 rfl ?_
  by_cases s1_0 : w = 0
  · skip
    refine x_tabIn h 40 dX0_count_1 (by rw [s1_0]; decide) (by rw [s1_0]; decide) (by rw [s1_0]; rfl) rfl ?_
    refine x_aload_n h dX0_count_40 rfl ?_
    refine x_geti h g_X0_1 (mlt hC.1 rfl) (hC.2.1 _ _ rfl) rfl dX0_count_41 ?_
    exact x_iret h dX0_count_44 rfl (xpE.to (by refine congrArg (fun z => some (Value.int z)) ?_; rw [s1_0]; exact hI0) rfl rfl rfl)
  by_cases s1_1 : w = 1
  · skip
    refine x_tabIn h 45 dX0_count_1 (by rw [s1_1]; decide) (by rw [s1_1]; decide) (by rw [s1_1]; rfl) rfl ?_
    refine x_aload_n h dX0_count_45 rfl ?_
    refine x_getr h (j := 6) g_X0_170 (mlt hC.1 rfl) (hC.2.1 _ _ rfl) (by decide) (hC.2.2 _ _ _ rfl) dX0_count_46 ?_
    refine x_getiN h g_X0_252 (mlt hC.1 rfl) (hC.2.1 _ _ rfl) rfl dX0_count_49 ?_
    exact x_iret h dX0_count_52 rfl (xpE.to (by refine congrArg (fun z => some (Value.int z)) ?_; rw [s1_1]; exact tNO.1) rfl rfl rfl)
  by_cases s1_2 : w = 2
  · skip
    refine x_tabIn h 53 dX0_count_1 (by rw [s1_2]; decide) (by rw [s1_2]; decide) (by rw [s1_2]; rfl) rfl ?_
    refine x_aload_n h dX0_count_53 rfl ?_
    refine x_geti h g_X0_114 (mlt hC.1 rfl) (hC.2.1 _ _ rfl) rfl dX0_count_54 ?_
    exact x_iret h dX0_count_57 rfl (xpE.to (by refine congrArg (fun z => some (Value.int z)) ?_; rw [s1_2]; exact ta2.trans ta1.symm) rfl rfl rfl)
  by_cases s1_3 : w = 3
  · skip
    refine x_tabIn h 58 dX0_count_1 (by rw [s1_3]; decide) (by rw [s1_3]; decide) (by rw [s1_3]; rfl) rfl ?_
    refine x_aload_n h dX0_count_58 rfl ?_
    refine x_geti h g_X0_72 (mlt hC.1 rfl) (hC.2.1 _ _ rfl) rfl dX0_count_59 ?_
    exact x_iret h dX0_count_62 rfl (xpE.to (by refine congrArg (fun z => some (Value.int z)) ?_; rw [s1_3]; exact ch4.trans ch2.symm) rfl rfl rfl)
  by_cases s1_4 : w = 4
  · skip
    refine x_tabIn h 63 dX0_count_1 (by rw [s1_4]; decide) (by rw [s1_4]; decide) (by rw [s1_4]; rfl) rfl ?_
    refine x_aload_n h dX0_count_63 rfl ?_
    refine x_geti h g_X0_428 (mlt hC.1 rfl) (hC.2.1 _ _ rfl) rfl dX0_count_64 ?_
    exact x_iret h dX0_count_67 rfl (xpE.to (by refine congrArg (fun z => some (Value.int z)) ?_; rw [s1_4]; exact bo2.trans bo1.symm) rfl rfl rfl)
  by_cases s1_5 : w = 5
  · skip
    refine x_tabIn h 68 dX0_count_1 (by rw [s1_5]; decide) (by rw [s1_5]; decide) (by rw [s1_5]; rfl) rfl ?_
    refine x_aload_n h dX0_count_68 rfl ?_
    refine x_geti h g_X0_459 (mlt hC.1 rfl) (hC.2.1 _ _ rfl) rfl dX0_count_69 ?_
    exact x_iret h dX0_count_72 rfl (xpE.to (by refine congrArg (fun z => some (Value.int z)) ?_; rw [s1_5]; exact tr2.trans tr1.symm) rfl rfl rfl)
  refine x_tabD h 73 dX0_count_1 rfl (fun j hj => match j, hj with | 0, _ => Or.inr (xsw_ne s1_0 rfl) | 1, _ => Or.inr (xsw_ne s1_1 rfl) | 2, _ => Or.inr (xsw_ne s1_2 rfl) | 3, _ => Or.inr (xsw_ne s1_3 rfl) | 4, _ => Or.inr (xsw_ne s1_4 rfl) | 5, _ => Or.inr (xsw_ne s1_5 rfl) | j + 6, hj => absurd hj (by simp)) rfl ?_
  refine x_iconst h dX0_count_73 (-1) rfl ?_
  exact x_iret h dX0_count_74 rfl (xpE.to (by refine congrArg (fun z => some (Value.int z)) ?_; unfold m_count; rw [if_neg s1_0, if_neg s1_1, if_neg s1_2, if_neg s1_3, if_neg s1_4, if_neg s1_5]) rfl rfl rfl)
set_option maxHeartbeats 4000000 in
theorem k0_trace (l : Launch) (G : xG_T) (n : Nat) (Ty : Nat → xs_T) (F : xF_T) (hC : WC n Ty F) (I : xI_T) (L : xL_T) (J : xI_T) (M : xL_T) (o : Int32) (hT : TOP n Ty I L F J M) : CE l (2) yX0_trace cX0_trace 2 (some .int) G n Ty F [.ref (xb G + 0), .int o] I L (some (.int (m_trace J o))) (I) := by
  refine Cg.intro (cls := RX0) (pad := 0) (lv := [some (.ref (xb G + 0)), some (.int o)]) rfl (by decide) (Nat.le_of_ble_eq_true rfl) rfl (fun Θ h => ?_)
  have hQ := hT.Q
  have hI0 : I 0 1 = J 70 0 := hQ.1.1.1
  have hb := hQ.2.2.1.1
  obtain ⟨nb, hnb, enb, enx, hnI⟩ := hQ.nb
  have ekB : ∀ o : Int32, k_isB I o = m_isB J o := isB_k hI0
  have ⟨tC, tNU, tNO, tBY, tKL, tWW, tRB, tBU, tCH, tTA, tLE, tIM, tBO, tTR, tSH, tFR⟩ := hT
  obtain ⟨t9, ht9, tr1, tr2, tr3⟩ := tTR
  have hx := trace_1 (i := o) ht9
  rw [← tr1] at hx
  refine x_iload_n h dX0_trace_0 rfl ?_
  refine x_if_lt h 27 dX0_trace_1 rfl (fun c1 => ?_) (fun c1 => ?_)
  · skip
    have hz : m_trace J o = -1 := by unfold m_trace; rw [if_pos (Classical.byContradiction fun y => (hx.mp y).1 c1)]
    refine x_iconst h dX0_trace_27 (-1) rfl ?_
    exact x_iret h dX0_trace_28 rfl (xpE.to (by refine congrArg (fun z => some (Value.int z)) ?_; first | exact hz.symm | (rw [hz, ek, ix_n (by omega)]; exact tr3 k hkt hk24)) rfl rfl rfl)
  · skip
    refine x_iload_n h dX0_trace_4 rfl ?_
    refine x_aload_n h dX0_trace_5 rfl ?_
    refine x_geti h g_X0_459 (mlt hC.1 rfl) (hC.2.1 _ _ rfl) rfl dX0_trace_6 ?_
    refine x_eqi (nI t9) tr2 ?_
    refine x_icmp_ge h 27 dX0_trace_9 rfl (fun c9 => ?_) (fun c9 => ?_)
    · skip
      have hz : m_trace J o = -1 := by unfold m_trace; rw [if_pos (Classical.byContradiction fun y => Int32.not_lt.mpr c9 (by rw [← tr1]; exact (hx.mp y).2.1))]
      refine x_iconst h dX0_trace_27 (-1) rfl ?_
      exact x_iret h dX0_trace_28 rfl (xpE.to (by refine congrArg (fun z => some (Value.int z)) ?_; first | exact hz.symm | (rw [hz, ek, ix_n (by omega)]; exact tr3 k hkt hk24)) rfl rfl rfl)
    · skip
      refine x_iload_n h dX0_trace_12 rfl ?_
      refine x_bipush h dX0_trace_13 (24) rfl ?_
      refine x_icmp_ge h 27 dX0_trace_15 rfl (fun c15 => ?_) (fun c15 => ?_)
      · skip
        have hz : m_trace J o = -1 := by unfold m_trace; rw [if_pos (Classical.byContradiction fun y => Int32.not_lt.mpr c15 (hx.mp y).2.2)]
        refine x_iconst h dX0_trace_27 (-1) rfl ?_
        exact x_iret h dX0_trace_28 rfl (xpE.to (by refine congrArg (fun z => some (Value.int z)) ?_; first | exact hz.symm | (rw [hz, ek, ix_n (by omega)]; exact tr3 k hkt hk24)) rfl rfl rfl)
      · skip
        have n9 := Int32.not_le.mp c9
        have n15 := Int32.not_le.mp c15
        have hz : m_trace J o = J 89 (ix o) := by unfold m_trace; rw [if_neg (hx.mpr ⟨c1, by rw [tr1]; exact n9, n15⟩)]
        obtain ⟨k, hk31, ek⟩ := nI_of c1
        have hkt : k < t9 := (nI_ltI hk31 (by omega)).mp (by rw [← ek]; exact n9)
        have hk24 : k < 24 := (nI_ltI (b := 24) hk31 (by decide)).mp (by rw [← ek]; exact n15)
        refine x_aload_n h dX0_trace_18 rfl ?_
        refine x_getr h (j := 31) g_X0_196 (mlt hC.1 rfl) (hC.2.1 _ _ rfl) (by decide) (hC.2.2 _ _ _ rfl) dX0_trace_19 ?_
        refine x_iload_n h dX0_trace_22 rfl ?_
        refine x_eqi (nI k) ek ?_
        refine x_bald h (mlt hC.1 rfl) (hC.2.1 _ _ rfl) (vp_in_nI hk24 (by decide)) (k) (nI_clamp (by omega)) dX0_trace_23 ?_
        refine x_goto h 28 dX0_trace_24 rfl ?_
        exact x_iret h dX0_trace_28 rfl (xpE.to (by refine congrArg (fun z => some (Value.int z)) ?_; first | exact hz.symm | (rw [hz, ek, ix_n (by omega)]; exact tr3 k hkt hk24)) rfl rfl rfl)
