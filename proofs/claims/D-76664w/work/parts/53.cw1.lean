/-! WALKS OF THE COMPONENT: tests, markets -/
theorem m_X0_7 : xcs RX0 7 yX0_in cX0_in 3 (some .boolean) 3 := ⟨lw_S q148 q149 q99 q150, by decide +kernel, by decide +kernel, by decide +kernel⟩
theorem g_X0_1 : xfg RX0 1 0 1 := ⟨_, _, _, rfl, by decide, in_X0, q707, rfl⟩
theorem m_X0_11 : xcv RX0 11 0 yX0_isBuyer cX0_isBuyer 2 (some .boolean) 1 := ⟨_, _, _, rfl, lw_V q341 q343 qs5 q99 q344, rfl, by decide +kernel, by decide +kernel, by decide +kernel⟩
theorem g_X0_428 : xfg RX0 428 0 42 := ⟨_, _, _, rfl, by decide, in_X0, q752, rfl⟩
theorem m_X0_29 : xcs RX0 29 yX0_isShelf cX0_isShelf 1 (some .boolean) 1 := ⟨lw_S q313 q314 q99 q315, by decide +kernel, by decide +kernel, by decide +kernel⟩
theorem g_X2_33 : xfg RX2 33 2 5 := ⟨_, _, _, rfl, by decide, in_X2, q668, rfl⟩
theorem p_X2_33 : xfp RX2 33 2 5 (tyX2 5) false := ⟨_, _, _, tyX2, rfl, by decide, in_X2, q668, rfl, tyX2_ok, nmX2, tyX2_ok 5 (by decide), rfl⟩
theorem g_X2_21 : xfg RX2 21 2 3 := ⟨_, _, _, rfl, by decide, in_X2, q664, rfl⟩
theorem g_X2_24 : xfg RX2 24 2 4 := ⟨_, _, _, rfl, by decide, in_X2, q666, rfl⟩
theorem g_X2_43 : xfg RX2 43 2 8 := ⟨_, _, _, rfl, by decide, in_X2, q674, rfl⟩
theorem p_X2_37 : xfp RX2 37 2 6 (tyX2 6) false := ⟨_, _, _, tyX2, rfl, by decide, in_X2, q670, rfl, tyX2_ok, nmX2, tyX2_ok 6 (by decide), rfl⟩
theorem g_X2_18 : xfg RX2 18 2 2 := ⟨_, _, _, rfl, by decide, in_X2, q662, rfl⟩
theorem p_X2_43 : xfp RX2 43 2 8 (tyX2 8) false := ⟨_, _, _, tyX2, rfl, by decide, in_X2, q674, rfl, tyX2_ok, nmX2, tyX2_ok 8 (by decide), rfl⟩
theorem g_X2_9 : xfg RX2 9 2 0 := ⟨_, _, _, rfl, by decide, in_X2, q658, rfl⟩
theorem g_X2_15 : xfg RX2 15 2 1 := ⟨_, _, _, rfl, by decide, in_X2, q660, rfl⟩
theorem g_X2_37 : xfg RX2 37 2 6 := ⟨_, _, _, rfl, by decide, in_X2, q670, rfl⟩
theorem g_X2_40 : xfg RX2 40 2 7 := ⟨_, _, _, rfl, by decide, in_X2, q672, rfl⟩
theorem p_X2_40 : xfp RX2 40 2 7 (tyX2 7) false := ⟨_, _, _, tyX2, rfl, by decide, in_X2, q672, rfl, tyX2_ok, nmX2, tyX2_ok 7 (by decide), rfl⟩
theorem g_X2_46 : xfg RX2 46 2 9 := ⟨_, _, _, rfl, by decide, in_X2, q676, rfl⟩
theorem p_X2_46 : xfp RX2 46 2 9 (tyX2 9) false := ⟨_, _, _, tyX2, rfl, by decide, in_X2, q676, rfl, tyX2_ok, nmX2, tyX2_ok 9 (by decide), rfl⟩
set_option maxHeartbeats 4000000 in
theorem k0_in (l : Launch) (G : xG_T) (n : Nat) (Ty : Nat → xs_T) (F : xF_T) (hC : WC n Ty F) (I : xI_T) (L : xL_T) (v : Int32) (lo : Int32) (hi : Int32)  : CE l (0) yX0_in cX0_in 3 (some .boolean) G n Ty F [.int v, .int lo, .int hi] I L (some (.int (inR v lo hi))) (I) := by
  refine Cg.intro (cls := RX0) (pad := 0) (lv := [some (.int v), some (.int lo), some (.int hi)]) rfl (by decide) (Nat.le_of_ble_eq_true rfl) rfl (fun Θ h => ?_)
  refine x_iload_n h dX0_in_0 rfl ?_
  refine x_iload_n h dX0_in_1 rfl ?_
  refine x_icmp_lt h 14 dX0_in_2 rfl (fun c2 => ?_) (fun c2 => ?_)
  · skip
    refine x_iconst h dX0_in_14 (0) rfl ?_
    exact x_zret h dX0_in_15 rfl rfl (xpE.to (by subst_vars; first | with_reducible rfl | (simp only [inR, *]; done) | (simp only [inR, ix, *]; rfl) | (simp [inR, ix, up2_ap, *]; done)) (by subst_vars; first | with_reducible rfl | (simp only [inR, *]; done) | (simp only [inR, ix, *]; rfl) | (simp [inR, ix, up2_ap, *]; done)) rfl rfl)
  · skip
    refine x_iload_n h dX0_in_5 rfl ?_
    refine x_iload_n h dX0_in_6 rfl ?_
    refine x_icmp_gt h 14 dX0_in_7 rfl (fun c7 => ?_) (fun c7 => ?_)
    · skip
      refine x_iconst h dX0_in_14 (0) rfl ?_
      exact x_zret h dX0_in_15 rfl rfl (xpE.to (by subst_vars; first | with_reducible rfl | (simp only [inR, *]; done) | (simp only [inR, ix, *]; rfl) | (simp [inR, ix, up2_ap, *]; done)) (by subst_vars; first | with_reducible rfl | (simp only [inR, *]; done) | (simp only [inR, ix, *]; rfl) | (simp [inR, ix, up2_ap, *]; done)) rfl rfl)
    · skip
      refine x_iconst h dX0_in_10 (1) rfl ?_
      refine x_goto h 15 dX0_in_11 rfl ?_
      exact x_zret h dX0_in_15 rfl rfl (xpE.to (by subst_vars; first | with_reducible rfl | (simp only [inR, *]; done) | (simp only [inR, ix, *]; rfl) | (simp [inR, ix, up2_ap, *]; done)) (by subst_vars; first | with_reducible rfl | (simp only [inR, *]; done) | (simp only [inR, ix, *]; rfl) | (simp [inR, ix, up2_ap, *]; done)) rfl rfl)
def k_has (s k : Int32) : Int32 := if (s >>> (k &&& 31)) &&& 1 = 1 then 1 else 0
set_option maxHeartbeats 4000000 in
theorem k0_has (l : Launch) (G : xG_T) (n : Nat) (Ty : Nat → xs_T) (F : xF_T) (hC : WC n Ty F) (I : xI_T) (L : xL_T) (s : Int32) (k : Int32)  : CE l (0) yX0_has cX0_has 2 (some .boolean) G n Ty F [.int s, .int k] I L (some (.int (k_has s k))) (I) := by
  refine Cg.intro (cls := RX0) (pad := 0) (lv := [some (.int s), some (.int k)]) rfl (by decide) (Nat.le_of_ble_eq_true rfl) rfl (fun Θ h => ?_)
  refine x_iload_n h dX0_has_0 rfl ?_
  refine x_iload_n h dX0_has_1 rfl ?_
  refine x_ishr h dX0_has_2 ?_
  refine x_iconst h dX0_has_3 (1) rfl ?_
  refine x_iand h dX0_has_4 ?_
  refine x_iconst h dX0_has_5 (1) rfl ?_
  refine x_icmp_ne h 13 dX0_has_6 rfl (fun c6 => ?_) (fun c6 => ?_)
  · skip
    refine x_iconst h dX0_has_13 (0) rfl ?_
    exact x_zret h dX0_has_14 rfl rfl (xpE.to (by subst_vars; first | with_reducible rfl | (simp only [k_has, *]; done) | (simp only [k_has, ix, *]; rfl) | (simp [k_has, ix, up2_ap, *]; done)) (by subst_vars; first | with_reducible rfl | (simp only [k_has, *]; done) | (simp only [k_has, ix, *]; rfl) | (simp [k_has, ix, up2_ap, *]; done)) rfl rfl)
  · skip
    refine x_iconst h dX0_has_9 (1) rfl ?_
    refine x_goto h 14 dX0_has_10 rfl ?_
    exact x_zret h dX0_has_14 rfl rfl (xpE.to (by subst_vars; first | with_reducible rfl | (simp only [k_has, *]; done) | (simp only [k_has, ix, *]; rfl) | (simp [k_has, ix, up2_ap, *]; done)) (by subst_vars; first | with_reducible rfl | (simp only [k_has, *]; done) | (simp only [k_has, ix, *]; rfl) | (simp [k_has, ix, up2_ap, *]; done)) rfl rfl)
set_option maxHeartbeats 4000000 in
theorem k0_isShelf (l : Launch) (G : xG_T) (n : Nat) (Ty : Nat → xs_T) (F : xF_T) (hC : WC n Ty F) (I : xI_T) (L : xL_T) (s : Int32)  : CE l (1) yX0_isShelf cX0_isShelf 1 (some .boolean) G n Ty F [.int s] I L (some (.int (inR s 0 5))) (I) := by
  refine Cg.intro (cls := RX0) (pad := 0) (lv := [some (.int s)]) rfl (by decide) (Nat.le_of_ble_eq_true rfl) rfl (fun Θ h => ?_)
  refine x_iload_n h dX0_isShelf_0 rfl ?_
  refine x_iconst h dX0_isShelf_1 (0) rfl ?_
  refine x_iconst h dX0_isShelf_2 (5) rfl ?_
  refine x_callSEi h (As := [.int _, .int _, .int _]) (k0_in l G n _ _ hC _ _ _ _ _ ) m_X0_7 dX0_isShelf_3 ⟨by decide, by decide⟩ ⟨by decide, by decide⟩ rfl (Nat.le_of_ble_eq_true rfl) ?_
  exact x_zret h dX0_isShelf_6 (nar01 inR_01) rfl (xpE.to rfl rfl rfl rfl)
def k_isB (I : xI_T) (b : Int32) : Int32 := inR b 0 (I 0 1 - 1)
set_option maxHeartbeats 4000000 in
theorem k0_isBuyer (l : Launch) (G : xG_T) (n : Nat) (Ty : Nat → xs_T) (F : xF_T) (hC : WC n Ty F) (I : xI_T) (L : xL_T) (b : Int32)  : CE l (1) yX0_isBuyer cX0_isBuyer 2 (some .boolean) G n Ty F [.ref (xb G + 0), .int b] I L (some (.int (k_isB I b))) (I) := by
  refine Cg.intro (cls := RX0) (pad := 0) (lv := [some (.ref (xb G + 0)), some (.int b)]) rfl (by decide) (Nat.le_of_ble_eq_true rfl) rfl (fun Θ h => ?_)
  refine x_iload_n h dX0_isBuyer_0 rfl ?_
  refine x_iconst h dX0_isBuyer_1 (0) rfl ?_
  refine x_aload_n h dX0_isBuyer_2 rfl ?_
  refine x_geti h g_X0_1 (mlt hC.1 rfl) (hC.2.1 _ _ rfl) rfl dX0_isBuyer_3 ?_
  refine x_iconst h dX0_isBuyer_6 (1) rfl ?_
  refine x_isub h dX0_isBuyer_7 ?_
  refine x_callSEi h (As := [.int _, .int _, .int _]) (k0_in l G n _ _ hC _ _ _ _ _ ) m_X0_7 dX0_isBuyer_8 ⟨by decide, by decide⟩ ⟨by decide, by decide⟩ rfl (Nat.le_of_ble_eq_true rfl) ?_
  exact x_zret h dX0_isBuyer_11 (nar01 inR_01) rfl (xpE.to rfl rfl rfl rfl)
def k_two (I : xI_T) (ab : Int32) : Int32 := if ab < 0 then 0 else if k_isB I (ab / 10) = 0 then 0 else if k_isB I (irm ab 10) = 0 then 0 else if ab / 10 = irm ab 10 then 0 else 1
set_option maxHeartbeats 4000000 in
theorem k0_areTwo (l : Launch) (G : xG_T) (n : Nat) (Ty : Nat → xs_T) (F : xF_T) (hC : WC n Ty F) (I : xI_T) (L : xL_T) (ab : Int32)  : CE l (2) yX0_areTwo cX0_areTwo 2 (some .boolean) G n Ty F [.ref (xb G + 0), .int ab] I L (some (.int (k_two I ab))) (I) := by
  refine Cg.intro (cls := RX0) (pad := 0) (lv := [some (.ref (xb G + 0)), some (.int ab)]) rfl (by decide) (Nat.le_of_ble_eq_true rfl) rfl (fun Θ h => ?_)
  refine x_iload_n h dX0_areTwo_0 rfl ?_
  refine x_if_lt h 41 dX0_areTwo_1 rfl (fun c1 => ?_) (fun c1 => ?_)
  · skip
    refine x_iconst h dX0_areTwo_41 (0) rfl ?_
    exact x_zret h dX0_areTwo_42 rfl rfl (xpE.to (by unfold k_two irm; first | rw [if_pos c1] | rw [if_neg c1, if_pos c12] | rw [if_neg c1, if_neg c12, if_pos c23] | rw [if_neg c1, if_neg c12, if_neg c23, if_pos c34] | rw [if_neg c1, if_neg c12, if_neg c23, if_neg c34]) rfl rfl rfl)
  · skip
    refine x_aload_n h dX0_areTwo_4 rfl ?_
    refine x_iload_n h dX0_areTwo_5 rfl ?_
    refine x_bipush h dX0_areTwo_6 (10) rfl ?_
    refine x_idiv h dX0_areTwo_8 (by decide) ?_
    refine x_callVEi h (As := [.int _]) (k0_isBuyer l G n _ _ hC _ _ _ ) m_X0_11 (mlt hC.1 rfl) (hC.2.1 _ _ rfl) dX0_areTwo_9 ⟨by decide, by decide⟩ ⟨by decide, by decide⟩ rfl (Nat.le_of_ble_eq_true rfl) ?_
    refine x_if_eq h 41 dX0_areTwo_12 rfl (fun c12 => ?_) (fun c12 => ?_)
    · skip
      refine x_iconst h dX0_areTwo_41 (0) rfl ?_
      exact x_zret h dX0_areTwo_42 rfl rfl (xpE.to (by unfold k_two irm; first | rw [if_pos c1] | rw [if_neg c1, if_pos c12] | rw [if_neg c1, if_neg c12, if_pos c23] | rw [if_neg c1, if_neg c12, if_neg c23, if_pos c34] | rw [if_neg c1, if_neg c12, if_neg c23, if_neg c34]) rfl rfl rfl)
    · skip
      refine x_aload_n h dX0_areTwo_15 rfl ?_
      refine x_iload_n h dX0_areTwo_16 rfl ?_
      refine x_bipush h dX0_areTwo_17 (10) rfl ?_
      refine x_irem h dX0_areTwo_19 (by decide) ?_
      refine x_callVEi h (As := [.int _]) (k0_isBuyer l G n _ _ hC _ _ _ ) m_X0_11 (mlt hC.1 rfl) (hC.2.1 _ _ rfl) dX0_areTwo_20 ⟨by decide, by decide⟩ ⟨by decide, by decide⟩ rfl (Nat.le_of_ble_eq_true rfl) ?_
      refine x_if_eq h 41 dX0_areTwo_23 rfl (fun c23 => ?_) (fun c23 => ?_)
      · skip
        refine x_iconst h dX0_areTwo_41 (0) rfl ?_
        exact x_zret h dX0_areTwo_42 rfl rfl (xpE.to (by unfold k_two irm; first | rw [if_pos c1] | rw [if_neg c1, if_pos c12] | rw [if_neg c1, if_neg c12, if_pos c23] | rw [if_neg c1, if_neg c12, if_neg c23, if_pos c34] | rw [if_neg c1, if_neg c12, if_neg c23, if_neg c34]) rfl rfl rfl)
      · skip
        refine x_iload_n h dX0_areTwo_26 rfl ?_
        refine x_bipush h dX0_areTwo_27 (10) rfl ?_
        refine x_idiv h dX0_areTwo_29 (by decide) ?_
        refine x_iload_n h dX0_areTwo_30 rfl ?_
        refine x_bipush h dX0_areTwo_31 (10) rfl ?_
        refine x_irem h dX0_areTwo_33 (by decide) ?_
        refine x_icmp_eq h 41 dX0_areTwo_34 rfl (fun c34 => ?_) (fun c34 => ?_)
        · skip
          refine x_iconst h dX0_areTwo_41 (0) rfl ?_
          exact x_zret h dX0_areTwo_42 rfl rfl (xpE.to (by unfold k_two irm; first | rw [if_pos c1] | rw [if_neg c1, if_pos c12] | rw [if_neg c1, if_neg c12, if_pos c23] | rw [if_neg c1, if_neg c12, if_neg c23, if_pos c34] | rw [if_neg c1, if_neg c12, if_neg c23, if_neg c34]) rfl rfl rfl)
        · skip
          refine x_iconst h dX0_areTwo_37 (1) rfl ?_
          refine x_goto h 42 dX0_areTwo_38 rfl ?_
          exact x_zret h dX0_areTwo_42 rfl rfl (xpE.to (by unfold k_two irm; first | rw [if_pos c1] | rw [if_neg c1, if_pos c12] | rw [if_neg c1, if_neg c12, if_pos c23] | rw [if_neg c1, if_neg c12, if_neg c23, if_pos c34] | rw [if_neg c1, if_neg c12, if_neg c23, if_neg c34]) rfl rfl rfl)
set_option maxHeartbeats 4000000 in
theorem k0_isBody (l : Launch) (G : xG_T) (n : Nat) (Ty : Nat → xs_T) (F : xF_T) (hC : WC n Ty F) (I : xI_T) (L : xL_T) (b : Int32)  : CE l (1) yX0_isBody cX0_isBody 2 (some .boolean) G n Ty F [.ref (xb G + 0), .int b] I L (some (.int (inR b 0 (I 0 42 - 1)))) (I) := by
  refine Cg.intro (cls := RX0) (pad := 0) (lv := [some (.ref (xb G + 0)), some (.int b)]) rfl (by decide) (Nat.le_of_ble_eq_true rfl) rfl (fun Θ h => ?_)
  refine x_iload_n h dX0_isBody_0 rfl ?_
  refine x_iconst h dX0_isBody_1 (0) rfl ?_
  refine x_aload_n h dX0_isBody_2 rfl ?_
  refine x_geti h g_X0_428 (mlt hC.1 rfl) (hC.2.1 _ _ rfl) rfl dX0_isBody_3 ?_
  refine x_iconst h dX0_isBody_6 (1) rfl ?_
  refine x_isub h dX0_isBody_7 ?_
  refine x_callSEi h (As := [.int _, .int _, .int _]) (k0_in l G n _ _ hC _ _ _ _ _ ) m_X0_7 dX0_isBody_8 ⟨by decide, by decide⟩ ⟨by decide, by decide⟩ rfl (Nat.le_of_ble_eq_true rfl) ?_
  exact x_zret h dX0_isBody_11 (nar01 inR_01) rfl (xpE.to rfl rfl rfl rfl)
set_option maxHeartbeats 4000000 in
theorem k0_areShelves (l : Launch) (G : xG_T) (n : Nat) (Ty : Nat → xs_T) (F : xF_T) (hC : WC n Ty F) (I : xI_T) (L : xL_T) (ss : Int32)  : CE l (2) yX0_areShelves cX0_areShelves 1 (some .boolean) G n Ty F [.int ss] I L (some (.int (m_areS ss))) (I) := by
  refine Cg.intro (cls := RX0) (pad := 0) (lv := [some (.int ss)]) rfl (by decide) (Nat.le_of_ble_eq_true rfl) rfl (fun Θ h => ?_)
  refine x_iload_n h dX0_areShelves_0 rfl ?_
  refine x_if_lt h 28 dX0_areShelves_1 rfl (fun c1 => ?_) (fun c1 => ?_)
  · skip
    refine x_iconst h dX0_areShelves_28 (0) rfl ?_
    exact x_zret h dX0_areShelves_29 rfl rfl (xpE.to (by subst_vars; first | with_reducible rfl | (simp only [m_areS, irm, *]; done) | (simp only [m_areS, irm, ix, *]; rfl) | (simp [m_areS, irm, ix, up2_ap, *]; done)) (by subst_vars; first | with_reducible rfl | (simp only [m_areS, irm, *]; done) | (simp only [m_areS, irm, ix, *]; rfl) | (simp [m_areS, irm, ix, up2_ap, *]; done)) rfl rfl)
  · skip
    refine x_iload_n h dX0_areShelves_4 rfl ?_
    refine x_bipush h dX0_areShelves_5 (10) rfl ?_
    refine x_idiv h dX0_areShelves_7 (by decide) ?_
    refine x_callSEi h (As := [.int _]) (k0_isShelf l G n _ _ hC _ _ _ ) m_X0_29 dX0_areShelves_8 ⟨by decide, by decide⟩ ⟨by decide, by decide⟩ rfl (Nat.le_of_ble_eq_true rfl) ?_
    refine x_if_eq h 28 dX0_areShelves_11 rfl (fun c11 => ?_) (fun c11 => ?_)
    · skip
      refine x_iconst h dX0_areShelves_28 (0) rfl ?_
      exact x_zret h dX0_areShelves_29 rfl rfl (xpE.to (by subst_vars; first | with_reducible rfl | (simp only [m_areS, irm, *]; done) | (simp only [m_areS, irm, ix, *]; rfl) | (simp [m_areS, irm, ix, up2_ap, *]; done)) (by subst_vars; first | with_reducible rfl | (simp only [m_areS, irm, *]; done) | (simp only [m_areS, irm, ix, *]; rfl) | (simp [m_areS, irm, ix, up2_ap, *]; done)) rfl rfl)
    · skip
      refine x_iload_n h dX0_areShelves_14 rfl ?_
      refine x_bipush h dX0_areShelves_15 (10) rfl ?_
      refine x_irem h dX0_areShelves_17 (by decide) ?_
      refine x_callSEi h (As := [.int _]) (k0_isShelf l G n _ _ hC _ _ _ ) m_X0_29 dX0_areShelves_18 ⟨by decide, by decide⟩ ⟨by decide, by decide⟩ rfl (Nat.le_of_ble_eq_true rfl) ?_
      refine x_if_eq h 28 dX0_areShelves_21 rfl (fun c21 => ?_) (fun c21 => ?_)
      · skip
        refine x_iconst h dX0_areShelves_28 (0) rfl ?_
        exact x_zret h dX0_areShelves_29 rfl rfl (xpE.to (by subst_vars; first | with_reducible rfl | (simp only [m_areS, irm, *]; done) | (simp only [m_areS, irm, ix, *]; rfl) | (simp [m_areS, irm, ix, up2_ap, *]; done)) (by subst_vars; first | with_reducible rfl | (simp only [m_areS, irm, *]; done) | (simp only [m_areS, irm, ix, *]; rfl) | (simp [m_areS, irm, ix, up2_ap, *]; done)) rfl rfl)
      · skip
        refine x_iconst h dX0_areShelves_24 (1) rfl ?_
        refine x_goto h 29 dX0_areShelves_25 rfl ?_
        exact x_zret h dX0_areShelves_29 rfl rfl (xpE.to (by subst_vars; first | with_reducible rfl | (simp only [m_areS, irm, *]; done) | (simp only [m_areS, irm, ix, *]; rfl) | (simp [m_areS, irm, ix, up2_ap, *]; done)) (by subst_vars; first | with_reducible rfl | (simp only [m_areS, irm, *]; done) | (simp only [m_areS, irm, ix, *]; rfl) | (simp [m_areS, irm, ix, up2_ap, *]; done)) rfl rfl)
set_option maxHeartbeats 4000000 in
theorem k0_mayBe (l : Launch) (G : xG_T) (n : Nat) (Ty : Nat → xs_T) (F : xF_T) (hC : WC n Ty F) (I : xI_T) (L : xL_T) (w : Int32) (v : Int32)  : CE l (1) yX0_mayBe cX0_mayBe 2 (some .boolean) G n Ty F [.int w, .int v] I L (some (.int (m_fit w v))) (I) := by
  refine Cg.intro (cls := RX0) (pad := 0) (lv := [some (.int w), some (.int v)]) rfl (by decide) (Nat.le_of_ble_eq_true rfl) rfl (fun Θ h => ?_)
  refine x_iload_n h dX0_mayBe_0 rfl ?_
  by_cases s1_0 : w = 0
  · skip
    refine x_tabIn h 44 dX0_mayBe_1 (by rw [s1_0]; decide) (by rw [s1_0]; decide) (by rw [s1_0]; rfl) rfl ?_
    refine x_iload_n h dX0_mayBe_44 rfl ?_
    refine x_iconst h dX0_mayBe_45 (0) rfl ?_
    refine x_sipush h dX0_mayBe_46 (999) rfl ?_
    refine x_callSEi h (As := [.int _, .int _, .int _]) (k0_in l G n _ _ hC _ _ _ _ _ ) m_X0_7 dX0_mayBe_49 ⟨by decide, by decide⟩ ⟨by decide, by decide⟩ rfl (Nat.le_of_ble_eq_true rfl) ?_
    exact x_zret h dX0_mayBe_52 (nar01 inR_01) rfl (xpE.to (by subst_vars; first | with_reducible rfl | (simp only [m_fit, *]; done) | (simp only [m_fit, ix, *]; rfl) | (simp [m_fit, ix, up2_ap, *]; done)) (by subst_vars; first | with_reducible rfl | (simp only [m_fit, *]; done) | (simp only [m_fit, ix, *]; rfl) | (simp [m_fit, ix, up2_ap, *]; done)) rfl rfl)
  by_cases s1_1 : w = 1
  · skip
    refine x_tabIn h 53 dX0_mayBe_1 (by rw [s1_1]; decide) (by rw [s1_1]; decide) (by rw [s1_1]; rfl) rfl ?_
    refine x_iload_n h dX0_mayBe_53 rfl ?_
    refine x_iconst h dX0_mayBe_54 (0) rfl ?_
    refine x_bipush h dX0_mayBe_55 (9) rfl ?_
    refine x_callSEi h (As := [.int _, .int _, .int _]) (k0_in l G n _ _ hC _ _ _ _ _ ) m_X0_7 dX0_mayBe_57 ⟨by decide, by decide⟩ ⟨by decide, by decide⟩ rfl (Nat.le_of_ble_eq_true rfl) ?_
    exact x_zret h dX0_mayBe_60 (nar01 inR_01) rfl (xpE.to (by subst_vars; first | with_reducible rfl | (simp only [m_fit, *]; done) | (simp only [m_fit, ix, *]; rfl) | (simp [m_fit, ix, up2_ap, *]; done)) (by subst_vars; first | with_reducible rfl | (simp only [m_fit, *]; done) | (simp only [m_fit, ix, *]; rfl) | (simp [m_fit, ix, up2_ap, *]; done)) rfl rfl)
  by_cases s1_2 : w = 2
  · skip
    refine x_tabIn h 53 dX0_mayBe_1 (by rw [s1_2]; decide) (by rw [s1_2]; decide) (by rw [s1_2]; rfl) rfl ?_
    refine x_iload_n h dX0_mayBe_53 rfl ?_
    refine x_iconst h dX0_mayBe_54 (0) rfl ?_
    refine x_bipush h dX0_mayBe_55 (9) rfl ?_
    refine x_callSEi h (As := [.int _, .int _, .int _]) (k0_in l G n _ _ hC _ _ _ _ _ ) m_X0_7 dX0_mayBe_57 ⟨by decide, by decide⟩ ⟨by decide, by decide⟩ rfl (Nat.le_of_ble_eq_true rfl) ?_
    exact x_zret h dX0_mayBe_60 (nar01 inR_01) rfl (xpE.to (by subst_vars; first | with_reducible rfl | (simp only [m_fit, *]; done) | (simp only [m_fit, ix, *]; rfl) | (simp [m_fit, ix, up2_ap, *]; done)) (by subst_vars; first | with_reducible rfl | (simp only [m_fit, *]; done) | (simp only [m_fit, ix, *]; rfl) | (simp [m_fit, ix, up2_ap, *]; done)) rfl rfl)
  by_cases s1_4 : w = 4
  · skip
    refine x_tabIn h 61 dX0_mayBe_1 (by rw [s1_4]; decide) (by rw [s1_4]; decide) (by rw [s1_4]; rfl) rfl ?_
    refine x_iload_n h dX0_mayBe_61 rfl ?_
    refine x_iconst h dX0_mayBe_62 (1) rfl ?_
    refine x_iconst h dX0_mayBe_63 (5) rfl ?_
    refine x_callSEi h (As := [.int _, .int _, .int _]) (k0_in l G n _ _ hC _ _ _ _ _ ) m_X0_7 dX0_mayBe_64 ⟨by decide, by decide⟩ ⟨by decide, by decide⟩ rfl (Nat.le_of_ble_eq_true rfl) ?_
    exact x_zret h dX0_mayBe_67 (nar01 inR_01) rfl (xpE.to (by subst_vars; first | with_reducible rfl | (simp only [m_fit, *]; done) | (simp only [m_fit, ix, *]; rfl) | (simp [m_fit, ix, up2_ap, *]; done)) (by subst_vars; first | with_reducible rfl | (simp only [m_fit, *]; done) | (simp only [m_fit, ix, *]; rfl) | (simp [m_fit, ix, up2_ap, *]; done)) rfl rfl)
  by_cases s1_6 : w = 6
  · skip
    refine x_tabIn h 68 dX0_mayBe_1 (by rw [s1_6]; decide) (by rw [s1_6]; decide) (by rw [s1_6]; rfl) rfl ?_
    refine x_iload_n h dX0_mayBe_68 rfl ?_
    refine x_iconst h dX0_mayBe_69 (0) rfl ?_
    refine x_bipush h dX0_mayBe_70 (99) rfl ?_
    refine x_callSEi h (As := [.int _, .int _, .int _]) (k0_in l G n _ _ hC _ _ _ _ _ ) m_X0_7 dX0_mayBe_72 ⟨by decide, by decide⟩ ⟨by decide, by decide⟩ rfl (Nat.le_of_ble_eq_true rfl) ?_
    exact x_zret h dX0_mayBe_75 (nar01 inR_01) rfl (xpE.to (by subst_vars; first | with_reducible rfl | (simp only [m_fit, *]; done) | (simp only [m_fit, ix, *]; rfl) | (simp [m_fit, ix, up2_ap, *]; done)) (by subst_vars; first | with_reducible rfl | (simp only [m_fit, *]; done) | (simp only [m_fit, ix, *]; rfl) | (simp [m_fit, ix, up2_ap, *]; done)) rfl rfl)
  refine x_tabD h 76 dX0_mayBe_1 rfl (fun j hj => match j, hj with | 0, _ => Or.inr (xsw_ne s1_0 rfl) | 1, _ => Or.inr (xsw_ne s1_1 rfl) | 2, _ => Or.inr (xsw_ne s1_2 rfl) | 3, _ => Or.inl rfl | 4, _ => Or.inr (xsw_ne s1_4 rfl) | 5, _ => Or.inl rfl | 6, _ => Or.inr (xsw_ne s1_6 rfl) | j + 7, hj => absurd hj (by simp)) rfl ?_
  refine x_iload_n h dX0_mayBe_76 rfl ?_
  refine x_iconst h dX0_mayBe_77 (0) rfl ?_
  refine x_iconst h dX0_mayBe_78 (1) rfl ?_
  refine x_callSEi h (As := [.int _, .int _, .int _]) (k0_in l G n _ _ hC _ _ _ _ _ ) m_X0_7 dX0_mayBe_79 ⟨by decide, by decide⟩ ⟨by decide, by decide⟩ rfl (Nat.le_of_ble_eq_true rfl) ?_
  exact x_zret h dX0_mayBe_82 (nar01 inR_01) rfl (xpE.to (by subst_vars; first | with_reducible rfl | (simp only [m_fit, *]; done) | (simp only [m_fit, ix, *]; rfl) | (simp [m_fit, ix, up2_ap, *]; done)) (by subst_vars; first | with_reducible rfl | (simp only [m_fit, *]; done) | (simp only [m_fit, ix, *]; rfl) | (simp [m_fit, ix, up2_ap, *]; done)) rfl rfl)
def k_old (I : xI_T) (g c : Nat) : xI_T := fun q j => if q = g + 4 ∧ j < c then I (g + 4) (j + 1) else if q = g + 5 ∧ j < c then I (g + 5) (j + 1) else I q j
theorem kold_z {I : xI_T} {g : Nat} : k_old I g 0 = I := by
  funext q j
  unfold k_old
  rw [if_neg (by omega), if_neg (by omega)]
theorem kold_up {I : xI_T} {g k : Nat} : up2 (up2 (k_old I g k) (g + 4) k (k_old I g k (g + 4) (k + 1))) (g + 5) k (up2 (k_old I g k) (g + 4) k (k_old I g k (g + 4) (k + 1)) (g + 5) (k + 1)) = k_old I g (k + 1) := by
  have e1 : k_old I g k (g + 4) (k + 1) = I (g + 4) (k + 1) := by
    unfold k_old
    rw [if_neg (by omega), if_neg (by omega)]
  have e2 : up2 (k_old I g k) (g + 4) k (k_old I g k (g + 4) (k + 1)) (g + 5) (k + 1) = I (g + 5) (k + 1) := by
    rw [up2_i _ _ (by omega)]
    unfold k_old
    rw [if_neg (by omega), if_neg (by omega)]
  rw [e2, e1]
  funext q j
  rw [up2_ap, up2_ap]
  unfold k_old
  by_cases h1 : q = g + 5 ∧ j = k
  · rw [if_pos h1, if_neg (by omega), if_pos (show q = g + 5 ∧ j < k + 1 from ⟨h1.1, by omega⟩), h1.2]
  · rw [if_neg h1]
    by_cases h2 : q = g + 4 ∧ j = k
    · rw [if_pos h2, if_pos (show q = g + 4 ∧ j < k + 1 from ⟨h2.1, by omega⟩), h2.2]
    · rw [if_neg h2]
      by_cases h3 : q = g + 4 ∧ j < k
      · rw [if_pos h3, if_pos (show q = g + 4 ∧ j < k + 1 from ⟨h3.1, by omega⟩)]
      · rw [if_neg h3]
        by_cases h4 : q = g + 5 ∧ j < k
        · rw [if_pos h4, if_neg (by omega), if_pos (show q = g + 5 ∧ j < k + 1 from ⟨h4.1, by omega⟩)]
        · rw [if_neg h4, if_neg (by omega), if_neg (by omega)]
def k_take (I : xI_T) (g : Nat) : xI_T := k_old (up2 I g 5 (I g 5 - 1)) g (ix (I g 5 - 1))
def k_owe (I : xI_T) (g : Nat) (w v : Int32) : xI_T := up2 (up2 (up2 I (g + 4) (ix (I g 5)) w) (g + 5) (ix (I g 5)) v) g 5 (I g 5 + 1)
def k_eve (I : xI_T) (g : Nat) : xI_T := fil2 (up2 (if I g 8 < 99 then up2 I g 8 (I g 8 + 1) else I) g 6 0) (g + 3) 0 8 0
def k_like (I : xI_T) (g f : Nat) : xI_T :=
  let J := cpy2 (cpy2 (cpy2 (cpy2 (cpy2 I (g + 1) 0 (f + 1) 0 8) (g + 2) 0 (f + 2) 0 8) (g + 3) 0 (f + 3) 0 8) (g + 4) 0 (f + 4) 0 5) (g + 5) 0 (f + 5) 0 5
  let J1 := up2 J g 5 (J f 5)
  let J2 := up2 J1 g 6 (J1 f 6)
  let J3 := up2 J2 g 7 (J2 f 7)
  let J4 := up2 J3 g 8 (J3 f 8)
  up2 J4 g 9 (J4 f 9)
set_option maxHeartbeats 4000000 in
theorem k2_takeOldest (l : Launch) (G : xG_T) (n : Nat) (Ty : Nat → xs_T) (F : xF_T) (hC : WC n Ty F) (I : xI_T) (L : xL_T) (g : Nat) (hg : mkT n Ty F g) (z : Nat) (hz : I g 5 - 1 = nI z) (hz4 : z ≤ 4) : CE l (0) yX2_takeOldest cX2_takeOldest 2 (none) G n Ty F [.ref (xb G + g)] I L (none) (k_take I g) := by
  refine Cg.intro (cls := RX2) (pad := 1) (lv := [some (.ref (xb G + g)), none]) rfl (by decide) (Nat.le_of_ble_eq_true rfl) rfl (fun Θ h => ?_)
  refine x_aload_n h dX2_takeOldest_0 rfl ?_
  refine x_dup h dX2_takeOldest_1 rfl ?_
  refine x_geti h g_X2_33 hg.l0 hg.1.2 rfl dX2_takeOldest_2 ?_
  refine x_iconst h dX2_takeOldest_5 (1) rfl ?_
  refine x_isub h dX2_takeOldest_6 ?_
  refine x_puti h p_X2_33 hg.l0 hg.1.2 rfl rfl rfl dX2_takeOldest_7 (fun J7 eJ7 => ?_)
  refine x_iconst h dX2_takeOldest_10 (0) rfl ?_
  refine x_istore_n h dX2_takeOldest_11 rfl (by decide) [some (.ref (xb G + g)), some (.int 0)] rfl ?_
  have lp12 : ∀ (d : Nat) (k : Nat) (J : xI_T), z - k < d → (k ≤ z) → (J = k_old J7 g k) → X Θ 0 0 n Ty J L F 12 [some (.ref (xb G + g)), some (.int (nI k))] [] := by
    intro d
    induction d with
    | zero =>
      intro k J hlt
      exact absurd hlt (Nat.not_lt_zero _)
    | succ d ih =>
      intro k J hlt hkz hJ
      have h5 : J g 5 = nI z := by rw [hJ]; unfold k_old; rw [if_neg (by omega), if_neg (by omega), eJ7, up2_s]; exact hz
      refine x_iload_n h dX2_takeOldest_12 rfl ?_
      refine x_aload_n h dX2_takeOldest_13 rfl ?_
      refine x_geti h g_X2_33 hg.l0 hg.1.2 rfl dX2_takeOldest_14 ?_
      refine x_icmp_ge h 54 dX2_takeOldest_17 rfl (fun c17 => ?_) (fun c17 => ?_)
      · skip
        have hkN : k = z := Nat.le_antisymm hkz (nleN h5 (by omega) (by omega) c17)
        exact x_vret h dX2_takeOldest_54 rfl (xpE.to rfl (by rw [hJ, hkN, eJ7]; unfold k_take; rw [hz, ix_n (by omega)]) rfl rfl)
      · skip
        have hkN : k < z := nltN h5 (by omega) (by omega) c17
        refine x_aload_n h dX2_takeOldest_20 rfl ?_
        refine x_getr h (j := g + 4) g_X2_21 hg.l0 hg.1.2 (by decide) hg.2.2.2.2.2.1 dX2_takeOldest_21 ?_
        refine x_iload_n h dX2_takeOldest_24 rfl ?_
        refine x_aload_n h dX2_takeOldest_25 rfl ?_
        refine x_getr h (j := g + 4) g_X2_21 hg.l0 hg.1.2 (by decide) hg.2.2.2.2.2.1 dX2_takeOldest_26 ?_
        refine x_iload_n h dX2_takeOldest_29 rfl ?_
        refine x_iconst h dX2_takeOldest_30 (1) rfl ?_
        refine x_iaddE h (nI (k + 1)) (nI_add k 1) dX2_takeOldest_31 ?_
        refine x_iald h hg.l4 hg.2.1.2.2.2.1 (vp_in_nI (by omega) (by first | decide | omega)) (k + 1) (nI_clamp (by omega)) dX2_takeOldest_32 ?_
        refine x_iast h hg.l4 hg.2.1.2.2.2.1 (vp_in_nI (by omega) (by first | decide | omega)) (k) (nI_clamp (by omega)) dX2_takeOldest_33 (fun J33 eJ33 => ?_)
        refine x_aload_n h dX2_takeOldest_34 rfl ?_
        refine x_getr h (j := g + 5) g_X2_24 hg.l0 hg.1.2 (by decide) hg.2.2.2.2.2.2 dX2_takeOldest_35 ?_
        refine x_iload_n h dX2_takeOldest_38 rfl ?_
        refine x_aload_n h dX2_takeOldest_39 rfl ?_
        refine x_getr h (j := g + 5) g_X2_24 hg.l0 hg.1.2 (by decide) hg.2.2.2.2.2.2 dX2_takeOldest_40 ?_
        refine x_iload_n h dX2_takeOldest_43 rfl ?_
        refine x_iconst h dX2_takeOldest_44 (1) rfl ?_
        refine x_iaddE h (nI (k + 1)) (nI_add k 1) dX2_takeOldest_45 ?_
        refine x_iald h hg.l5 hg.2.1.2.2.2.2 (vp_in_nI (by omega) (by first | decide | omega)) (k + 1) (nI_clamp (by omega)) dX2_takeOldest_46 ?_
        refine x_iast h hg.l5 hg.2.1.2.2.2.2 (vp_in_nI (by omega) (by first | decide | omega)) (k) (nI_clamp (by omega)) dX2_takeOldest_47 (fun J47 eJ47 => ?_)
        refine x_iinc h dX2_takeOldest_48 (by decide) rfl (nI (k + 1)) (nI_1 k) [some (.ref (xb G + g)), some (.int (nI (k + 1)))] rfl ?_
        refine x_goto h 12 dX2_takeOldest_51 rfl ?_
        exact ih (k + 1) J47 (by omega) (by omega) (by rw [eJ47, eJ33, hJ]; exact kold_up)
  exact lp12 (z + 1) 0 J7 (by omega) (by omega) kold_z.symm
set_option maxHeartbeats 4000000 in
theorem k2_owe (l : Launch) (G : xG_T) (n : Nat) (Ty : Nat → xs_T) (F : xF_T) (hC : WC n Ty F) (I : xI_T) (L : xL_T) (g : Nat) (w v : Int32) (hg : mkT n Ty F g) (h5 : vp_in (I g 5) 5) : CE l (0) yX2_owe cX2_owe 3 (none) G n Ty F [.ref (xb G + g), .int w, .int v] I L (none) (k_owe I g w v) := by
  refine Cg.intro (cls := RX2) (pad := 0) (lv := [some (.ref (xb G + g)), some (.int w), some (.int v)]) rfl (by decide) (Nat.le_of_ble_eq_true rfl) rfl (fun Θ h => ?_)
  refine x_aload_n h dX2_owe_0 rfl ?_
  refine x_getr h (j := g + 4) g_X2_21 hg.l0 hg.1.2 (by decide) hg.2.2.2.2.2.1 dX2_owe_1 ?_
  refine x_aload_n h dX2_owe_4 rfl ?_
  refine x_geti h g_X2_33 hg.l0 hg.1.2 rfl dX2_owe_5 ?_
  refine x_iload_n h dX2_owe_8 rfl ?_
  refine x_iast h hg.l4 hg.2.1.2.2.2.1 h5 _ rfl dX2_owe_9 (fun J9 eJ9 => ?_)
  refine x_aload_n h dX2_owe_10 rfl ?_
  refine x_getr h (j := g + 5) g_X2_24 hg.l0 hg.1.2 (by decide) hg.2.2.2.2.2.2 dX2_owe_11 ?_
  refine x_aload_n h dX2_owe_14 rfl ?_
  refine x_geti h g_X2_33 hg.l0 hg.1.2 rfl dX2_owe_15 ?_
  refine x_iload_n h dX2_owe_18 rfl ?_
  refine x_iast h hg.l5 hg.2.1.2.2.2.2 (by rw [eJ9, up2_i _ _ (by omega)]; exact h5) _ rfl dX2_owe_19 (fun J19 eJ19 => ?_)
  refine x_aload_n h dX2_owe_20 rfl ?_
  refine x_dup h dX2_owe_21 rfl ?_
  refine x_geti h g_X2_33 hg.l0 hg.1.2 rfl dX2_owe_22 ?_
  refine x_iconst h dX2_owe_25 (1) rfl ?_
  refine x_iadd h dX2_owe_26 ?_
  refine x_puti h p_X2_33 hg.l0 hg.1.2 rfl rfl rfl dX2_owe_27 (fun J27 eJ27 => ?_)
  exact x_vret h dX2_owe_30 rfl (xpE.to rfl (by rw [eJ27, eJ19, eJ9]; unfold k_owe; rw [up2_i _ _ (by omega), up2_i _ _ (by omega), up2_i _ _ (by omega)]) rfl rfl)
set_option maxHeartbeats 4000000 in
theorem k2_evening (l : Launch) (G : xG_T) (n : Nat) (Ty : Nat → xs_T) (F : xF_T) (hC : WC n Ty F) (I : xI_T) (L : xL_T) (g : Nat) (hg : mkT n Ty F g) : CE l (0) yX2_evening cX2_evening 2 (none) G n Ty F [.ref (xb G + g)] I L (none) (k_eve I g) := by
  refine Cg.intro (cls := RX2) (pad := 1) (lv := [some (.ref (xb G + g)), none]) rfl (by decide) (Nat.le_of_ble_eq_true rfl) rfl (fun Θ h => ?_)
  refine x_aload_n h dX2_evening_0 rfl ?_
  refine x_geti h g_X2_43 hg.l0 hg.1.2 rfl dX2_evening_1 ?_
  refine x_bipush h dX2_evening_4 (99) rfl ?_
  refine x_icmp_ge h 19 dX2_evening_6 rfl (fun c6 => ?_) (fun c6 => ?_)
  · skip
    have n6 := Int32.not_lt.mpr c6
    refine x_aload_n h dX2_evening_19 rfl ?_
    refine x_iconst h dX2_evening_20 (0) rfl ?_
    refine x_puti h p_X2_37 hg.l0 hg.1.2 rfl rfl rfl dX2_evening_21 (fun J21 eJ21 => ?_)
    refine x_iconst h dX2_evening_24 (0) rfl ?_
    refine x_istore_n h dX2_evening_25 rfl (by decide) [some (.ref (xb G + g)), some (.int 0)] rfl ?_
    have lp26 : ∀ (d : Nat) (k : Nat) (J : xI_T), 8 - k < d → (k ≤ 8) → (J = fil2 J21 (g + 3) 0 k 0) → X Θ 0 0 n Ty J L F 26 [some (.ref (xb G + g)), some (.int (nI k))] [] := by
      intro d
      induction d with
      | zero =>
        intro k J hlt
        exact absurd hlt (Nat.not_lt_zero _)
      | succ d ih =>
        intro k J hlt hk hJ
        refine x_iload_n h dX2_evening_26 rfl ?_
        refine x_bipush h dX2_evening_27 (8) rfl ?_
        refine x_icmp_ge h 45 dX2_evening_29 rfl (fun c29 => ?_) (fun c29 => ?_)
        · skip
          have hkN : k = 8 := Nat.le_antisymm hk (nleN rfl (by decide) (by omega) c29)
          exact x_vret h dX2_evening_45 rfl (xpE.to rfl (by rw [hJ, hkN, eJ21]; unfold k_eve; first | rw [if_neg n6] | rw [if_pos n6, eJ16]) rfl rfl)
        · skip
          have hkN : k < 8 := nltN rfl (by decide) (by omega) c29
          refine x_aload_n h dX2_evening_32 rfl ?_
          refine x_getr h (j := g + 3) g_X2_18 hg.l0 hg.1.2 (by decide) hg.2.2.2.2.1 dX2_evening_33 ?_
          refine x_iload_n h dX2_evening_36 rfl ?_
          refine x_iconst h dX2_evening_37 (0) rfl ?_
          refine x_iast h hg.l3 hg.2.1.2.2.1 (vp_in_nI (by omega) (by first | decide | omega)) (k) (nI_clamp (by omega)) dX2_evening_38 (fun J38 eJ38 => ?_)
          refine x_iinc h dX2_evening_39 (by decide) rfl (nI (k + 1)) (nI_1 k) [some (.ref (xb G + g)), some (.int (nI (k + 1)))] rfl ?_
          refine x_goto h 26 dX2_evening_42 rfl ?_
          exact ih (k + 1) J38 (by omega) (by omega) (by rw [eJ38, hJ]; exact fil2_up (by omega))
    exact lp26 9 0 J21 (by decide) (by decide) fil2_z.symm
  · skip
    have n6 := Int32.not_le.mp c6
    refine x_aload_n h dX2_evening_9 rfl ?_
    refine x_dup h dX2_evening_10 rfl ?_
    refine x_geti h g_X2_43 hg.l0 hg.1.2 rfl dX2_evening_11 ?_
    refine x_iconst h dX2_evening_14 (1) rfl ?_
    refine x_iadd h dX2_evening_15 ?_
    refine x_puti h p_X2_43 hg.l0 hg.1.2 rfl rfl rfl dX2_evening_16 (fun J16 eJ16 => ?_)
    refine x_aload_n h dX2_evening_19 rfl ?_
    refine x_iconst h dX2_evening_20 (0) rfl ?_
    refine x_puti h p_X2_37 hg.l0 hg.1.2 rfl rfl rfl dX2_evening_21 (fun J21 eJ21 => ?_)
    refine x_iconst h dX2_evening_24 (0) rfl ?_
    refine x_istore_n h dX2_evening_25 rfl (by decide) [some (.ref (xb G + g)), some (.int 0)] rfl ?_
    have lp26 : ∀ (d : Nat) (k : Nat) (J : xI_T), 8 - k < d → (k ≤ 8) → (J = fil2 J21 (g + 3) 0 k 0) → X Θ 0 0 n Ty J L F 26 [some (.ref (xb G + g)), some (.int (nI k))] [] := by
      intro d
      induction d with
      | zero =>
        intro k J hlt
        exact absurd hlt (Nat.not_lt_zero _)
      | succ d ih =>
        intro k J hlt hk hJ
        refine x_iload_n h dX2_evening_26 rfl ?_
        refine x_bipush h dX2_evening_27 (8) rfl ?_
        refine x_icmp_ge h 45 dX2_evening_29 rfl (fun c29 => ?_) (fun c29 => ?_)
        · skip
          have hkN : k = 8 := Nat.le_antisymm hk (nleN rfl (by decide) (by omega) c29)
          exact x_vret h dX2_evening_45 rfl (xpE.to rfl (by rw [hJ, hkN, eJ21]; unfold k_eve; first | rw [if_neg n6] | rw [if_pos n6, eJ16]) rfl rfl)
        · skip
          have hkN : k < 8 := nltN rfl (by decide) (by omega) c29
          refine x_aload_n h dX2_evening_32 rfl ?_
          refine x_getr h (j := g + 3) g_X2_18 hg.l0 hg.1.2 (by decide) hg.2.2.2.2.1 dX2_evening_33 ?_
          refine x_iload_n h dX2_evening_36 rfl ?_
          refine x_iconst h dX2_evening_37 (0) rfl ?_
          refine x_iast h hg.l3 hg.2.1.2.2.1 (vp_in_nI (by omega) (by first | decide | omega)) (k) (nI_clamp (by omega)) dX2_evening_38 (fun J38 eJ38 => ?_)
          refine x_iinc h dX2_evening_39 (by decide) rfl (nI (k + 1)) (nI_1 k) [some (.ref (xb G + g)), some (.int (nI (k + 1)))] rfl ?_
          refine x_goto h 26 dX2_evening_42 rfl ?_
          exact ih (k + 1) J38 (by omega) (by omega) (by rw [eJ38, hJ]; exact fil2_up (by omega))
    exact lp26 9 0 J21 (by decide) (by decide) fil2_z.symm
set_option maxHeartbeats 4000000 in
theorem k2_likeThat (l : Launch) (G : xG_T) (n : Nat) (Ty : Nat → xs_T) (F : xF_T) (hC : WC n Ty F) (I : xI_T) (L : xL_T) (g f : Nat) (hg : mkT n Ty F g) (hf : mkT n Ty F f) : CE l (2) yX2_likeThat cX2_likeThat 2 (none) G n Ty F [.ref (xb G + g), .ref (xb G + f)] I L (none) (k_like I g f) := by
  refine Cg.intro (cls := RX2) (pad := 0) (lv := [some (.ref (xb G + g)), some (.ref (xb G + f))]) rfl (by decide) (Nat.le_of_ble_eq_true rfl) rfl (fun Θ h => ?_)
  refine x_aload_n h dX2_likeThat_0 rfl ?_
  refine x_getr h (j := f + 1) g_X2_9 hf.l0 hf.1.2 (by decide) hf.2.2.1 dX2_likeThat_1 ?_
  refine x_iconst h dX2_likeThat_4 (0) rfl ?_
  refine x_aload_n h dX2_likeThat_5 rfl ?_
  refine x_getr h (j := g + 1) g_X2_9 hg.l0 hg.1.2 (by decide) hg.2.2.1 dX2_likeThat_6 ?_
  refine x_iconst h dX2_likeThat_9 (0) rfl ?_
  refine x_bipush h dX2_likeThat_10 (8) rfl ?_
  refine x_copyI h q880 hf.l1 hf.2.1.1 hg.l1 hg.2.1.1 (by decide) (by decide) (by decide) (by decide) (Nat.le_of_ble_eq_true rfl) (Nat.le_of_ble_eq_true rfl) (fun _ _ => rfl) (by decide) (Nat.le_of_ble_eq_true rfl) dX2_likeThat_12 (fun J12 eJ12 => ?_)
  refine x_aload_n h dX2_likeThat_15 rfl ?_
  refine x_getr h (j := f + 2) g_X2_15 hf.l0 hf.1.2 (by decide) hf.2.2.2.1 dX2_likeThat_16 ?_
  refine x_iconst h dX2_likeThat_19 (0) rfl ?_
  refine x_aload_n h dX2_likeThat_20 rfl ?_
  refine x_getr h (j := g + 2) g_X2_15 hg.l0 hg.1.2 (by decide) hg.2.2.2.1 dX2_likeThat_21 ?_
  refine x_iconst h dX2_likeThat_24 (0) rfl ?_
  refine x_bipush h dX2_likeThat_25 (8) rfl ?_
  refine x_copyI h q880 hf.l2 hf.2.1.2.1 hg.l2 hg.2.1.2.1 (by decide) (by decide) (by decide) (by decide) (Nat.le_of_ble_eq_true rfl) (Nat.le_of_ble_eq_true rfl) (fun _ _ => rfl) (by decide) (Nat.le_of_ble_eq_true rfl) dX2_likeThat_27 (fun J27 eJ27 => ?_)
  refine x_aload_n h dX2_likeThat_30 rfl ?_
  refine x_getr h (j := f + 3) g_X2_18 hf.l0 hf.1.2 (by decide) hf.2.2.2.2.1 dX2_likeThat_31 ?_
  refine x_iconst h dX2_likeThat_34 (0) rfl ?_
  refine x_aload_n h dX2_likeThat_35 rfl ?_
  refine x_getr h (j := g + 3) g_X2_18 hg.l0 hg.1.2 (by decide) hg.2.2.2.2.1 dX2_likeThat_36 ?_
  refine x_iconst h dX2_likeThat_39 (0) rfl ?_
  refine x_bipush h dX2_likeThat_40 (8) rfl ?_
  refine x_copyI h q880 hf.l3 hf.2.1.2.2.1 hg.l3 hg.2.1.2.2.1 (by decide) (by decide) (by decide) (by decide) (Nat.le_of_ble_eq_true rfl) (Nat.le_of_ble_eq_true rfl) (fun _ _ => rfl) (by decide) (Nat.le_of_ble_eq_true rfl) dX2_likeThat_42 (fun J42 eJ42 => ?_)
  refine x_aload_n h dX2_likeThat_45 rfl ?_
  refine x_getr h (j := f + 4) g_X2_21 hf.l0 hf.1.2 (by decide) hf.2.2.2.2.2.1 dX2_likeThat_46 ?_
  refine x_iconst h dX2_likeThat_49 (0) rfl ?_
  refine x_aload_n h dX2_likeThat_50 rfl ?_
  refine x_getr h (j := g + 4) g_X2_21 hg.l0 hg.1.2 (by decide) hg.2.2.2.2.2.1 dX2_likeThat_51 ?_
  refine x_iconst h dX2_likeThat_54 (0) rfl ?_
  refine x_iconst h dX2_likeThat_55 (5) rfl ?_
  refine x_copyI h q880 hf.l4 hf.2.1.2.2.2.1 hg.l4 hg.2.1.2.2.2.1 (by decide) (by decide) (by decide) (by decide) (Nat.le_of_ble_eq_true rfl) (Nat.le_of_ble_eq_true rfl) (fun _ _ => rfl) (by decide) (Nat.le_of_ble_eq_true rfl) dX2_likeThat_56 (fun J56 eJ56 => ?_)
  refine x_aload_n h dX2_likeThat_59 rfl ?_
  refine x_getr h (j := f + 5) g_X2_24 hf.l0 hf.1.2 (by decide) hf.2.2.2.2.2.2 dX2_likeThat_60 ?_
  refine x_iconst h dX2_likeThat_63 (0) rfl ?_
  refine x_aload_n h dX2_likeThat_64 rfl ?_
  refine x_getr h (j := g + 5) g_X2_24 hg.l0 hg.1.2 (by decide) hg.2.2.2.2.2.2 dX2_likeThat_65 ?_
  refine x_iconst h dX2_likeThat_68 (0) rfl ?_
  refine x_iconst h dX2_likeThat_69 (5) rfl ?_
  refine x_copyI h q880 hf.l5 hf.2.1.2.2.2.2 hg.l5 hg.2.1.2.2.2.2 (by decide) (by decide) (by decide) (by decide) (Nat.le_of_ble_eq_true rfl) (Nat.le_of_ble_eq_true rfl) (fun _ _ => rfl) (by decide) (Nat.le_of_ble_eq_true rfl) dX2_likeThat_70 (fun J70 eJ70 => ?_)
  refine x_aload_n h dX2_likeThat_73 rfl ?_
  refine x_aload_n h dX2_likeThat_74 rfl ?_
  refine x_geti h g_X2_33 hf.l0 hf.1.2 rfl dX2_likeThat_75 ?_
  refine x_puti h p_X2_33 hg.l0 hg.1.2 rfl rfl rfl dX2_likeThat_78 (fun J78 eJ78 => ?_)
  refine x_aload_n h dX2_likeThat_81 rfl ?_
  refine x_aload_n h dX2_likeThat_82 rfl ?_
  refine x_geti h g_X2_37 hf.l0 hf.1.2 rfl dX2_likeThat_83 ?_
  refine x_puti h p_X2_37 hg.l0 hg.1.2 rfl rfl rfl dX2_likeThat_86 (fun J86 eJ86 => ?_)
  refine x_aload_n h dX2_likeThat_89 rfl ?_
  refine x_aload_n h dX2_likeThat_90 rfl ?_
  refine x_geti h g_X2_40 hf.l0 hf.1.2 rfl dX2_likeThat_91 ?_
  refine x_puti h p_X2_40 hg.l0 hg.1.2 rfl rfl rfl dX2_likeThat_94 (fun J94 eJ94 => ?_)
  refine x_aload_n h dX2_likeThat_97 rfl ?_
  refine x_aload_n h dX2_likeThat_98 rfl ?_
  refine x_geti h g_X2_43 hf.l0 hf.1.2 rfl dX2_likeThat_99 ?_
  refine x_puti h p_X2_43 hg.l0 hg.1.2 rfl rfl rfl dX2_likeThat_102 (fun J102 eJ102 => ?_)
  refine x_aload_n h dX2_likeThat_105 rfl ?_
  refine x_aload_n h dX2_likeThat_106 rfl ?_
  refine x_geti h g_X2_46 hf.l0 hf.1.2 rfl dX2_likeThat_107 ?_
  refine x_puti h p_X2_46 hg.l0 hg.1.2 rfl rfl rfl dX2_likeThat_110 (fun J110 eJ110 => ?_)
  exact x_vret h dX2_likeThat_113 rfl (xpE.to rfl (by subst_vars; rfl) rfl rfl)
