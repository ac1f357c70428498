/-! WALKS OF THE COMPONENT: what is set -/
theorem p_X0_51 : xfpN RX0 51 4 1 (tyX4 1) := ⟨_, _, _, _, tyX4, rfl, by decide, in_X4, q167, rfl, tyX4_ok, nmX4, tyX4_ok 1 (by decide), rfl⟩
theorem p_X0_54 : xfpN RX0 54 4 2 (tyX4 2) := ⟨_, _, _, _, tyX4, rfl, by decide, in_X4, q169, rfl, tyX4_ok, nmX4, tyX4_ok 2 (by decide), rfl⟩
theorem p_X0_57 : xfpN RX0 57 4 3 (tyX4 3) := ⟨_, _, _, _, tyX4, rfl, by decide, in_X4, q170, rfl, tyX4_ok, nmX4, tyX4_ok 3 (by decide), rfl⟩
theorem p_X0_60 : xfp RX0 60 0 2 (tyX0 2) false := ⟨_, _, _, tyX0, rfl, by decide, in_X0, q708, rfl, tyX0_ok, nmX0, tyX0_ok 2 (by decide), rfl⟩
theorem p_X0_63 : xfp RX0 63 0 3 (tyX0 3) false := ⟨_, _, _, tyX0, rfl, by decide, in_X0, q709, rfl, tyX0_ok, nmX0, tyX0_ok 3 (by decide), rfl⟩
set_option maxHeartbeats 4000000 in
theorem k0_setTo (l : Launch) (G : xG_T) (n : Nat) (Ty : Nat → xs_T) (F : xF_T) (hC : WC n Ty F) (I : xI_T) (L : xL_T) (b w v : Int32) (q : Nat) (hQ : isQ n Ty F b w q) : CE l (2) yX0_setTo cX0_setTo 4 (none) G n Ty F [.ref (xb G + 0), .int w, .int b, .int v] I L (none) (kset I w q v) := by
  refine Cg.intro (cls := RX0) (pad := 0) (lv := [some (.ref (xb G + 0)), some (.int w), some (.int b), some (.int v)]) rfl (by decide) (Nat.le_of_ble_eq_true rfl) rfl (fun Θ h => ?_)
  refine x_iload_n h dX0_setTo_0 rfl ?_
  by_cases s1_0 : w = 0
  · skip
    refine x_tabIn h 40 dX0_setTo_1 (by rw [s1_0]; decide) (by rw [s1_0]; decide) (by rw [s1_0]; rfl) rfl ?_
    obtain ⟨y, hy8, ey, hq, ⟨-, hqn⟩, hqT⟩ := hQ (by rw [s1_0]; decide)
    refine x_aload_n h dX0_setTo_40 rfl ?_
    refine x_getr h (j := 1) g_X0_15 (mlt hC.1 rfl) (hC.2.1 _ _ rfl) (by decide) (hC.2.2 _ _ _ rfl) dX0_setTo_41 ?_
    refine x_iload_n h dX0_setTo_44 rfl ?_
    refine x_eqi (nI y) ey ?_
    refine x_aaldr h (q := q) (mlt hC.1 rfl) (hC.2.1 _ _ rfl) (by decide) rfl rfl (vp_in_nI hy8 (by decide)) (y) (nI_clamp (by omega)) hq dX0_setTo_45 ?_
    refine x_iload_n h dX0_setTo_46 rfl ?_
    refine x_putiN h p_X0_42 hqn hqT rfl rfl rfl dX0_setTo_47 (fun J47 eJ47 => ?_)
    refine x_goto h 113 dX0_setTo_50 rfl ?_
    exact x_vret h dX0_setTo_113 rfl (xpE.to rfl (by unfold kset; first | (rw [if_pos s1_0, eJ47]; done) | (rw [s1_1, if_neg (by decide), if_pos rfl, eJ60]; done) | (rw [s1_2, if_neg (by decide), if_neg (by decide), if_pos rfl, eJ73]; done) | (rw [s1_3, if_neg (by decide), if_neg (by decide), if_neg (by decide), if_pos rfl, eJ86]; done) | (rw [s1_4, if_neg (by decide), if_neg (by decide), if_neg (by decide), if_neg (by decide), if_pos rfl, eJ94]; done) | (rw [s1_5, if_neg (by decide), if_neg (by decide), if_neg (by decide), if_neg (by decide), if_neg (by decide), if_pos rfl, eJ102]; done) | (rw [if_neg s1_0, if_neg s1_1, if_neg s1_2, if_neg s1_3, if_neg s1_4, if_neg s1_5, eJ110]; done)) rfl rfl)
  by_cases s1_1 : w = 1
  · skip
    refine x_tabIn h 53 dX0_setTo_1 (by rw [s1_1]; decide) (by rw [s1_1]; decide) (by rw [s1_1]; rfl) rfl ?_
    obtain ⟨y, hy8, ey, hq, ⟨-, hqn⟩, hqT⟩ := hQ (by rw [s1_1]; decide)
    refine x_aload_n h dX0_setTo_53 rfl ?_
    refine x_getr h (j := 1) g_X0_15 (mlt hC.1 rfl) (hC.2.1 _ _ rfl) (by decide) (hC.2.2 _ _ _ rfl) dX0_setTo_54 ?_
    refine x_iload_n h dX0_setTo_57 rfl ?_
    refine x_eqi (nI y) ey ?_
    refine x_aaldr h (q := q) (mlt hC.1 rfl) (hC.2.1 _ _ rfl) (by decide) rfl rfl (vp_in_nI hy8 (by decide)) (y) (nI_clamp (by omega)) hq dX0_setTo_58 ?_
    refine x_iload_n h dX0_setTo_59 rfl ?_
    refine x_putiN h p_X0_51 hqn hqT rfl rfl rfl dX0_setTo_60 (fun J60 eJ60 => ?_)
    refine x_goto h 113 dX0_setTo_63 rfl ?_
    exact x_vret h dX0_setTo_113 rfl (xpE.to rfl (by unfold kset; first | (rw [if_pos s1_0, eJ47]; done) | (rw [s1_1, if_neg (by decide), if_pos rfl, eJ60]; done) | (rw [s1_2, if_neg (by decide), if_neg (by decide), if_pos rfl, eJ73]; done) | (rw [s1_3, if_neg (by decide), if_neg (by decide), if_neg (by decide), if_pos rfl, eJ86]; done) | (rw [s1_4, if_neg (by decide), if_neg (by decide), if_neg (by decide), if_neg (by decide), if_pos rfl, eJ94]; done) | (rw [s1_5, if_neg (by decide), if_neg (by decide), if_neg (by decide), if_neg (by decide), if_neg (by decide), if_pos rfl, eJ102]; done) | (rw [if_neg s1_0, if_neg s1_1, if_neg s1_2, if_neg s1_3, if_neg s1_4, if_neg s1_5, eJ110]; done)) rfl rfl)
  by_cases s1_2 : w = 2
  · skip
    refine x_tabIn h 66 dX0_setTo_1 (by rw [s1_2]; decide) (by rw [s1_2]; decide) (by rw [s1_2]; rfl) rfl ?_
    obtain ⟨y, hy8, ey, hq, ⟨-, hqn⟩, hqT⟩ := hQ (by rw [s1_2]; decide)
    refine x_aload_n h dX0_setTo_66 rfl ?_
    refine x_getr h (j := 1) g_X0_15 (mlt hC.1 rfl) (hC.2.1 _ _ rfl) (by decide) (hC.2.2 _ _ _ rfl) dX0_setTo_67 ?_
    refine x_iload_n h dX0_setTo_70 rfl ?_
    refine x_eqi (nI y) ey ?_
    refine x_aaldr h (q := q) (mlt hC.1 rfl) (hC.2.1 _ _ rfl) (by decide) rfl rfl (vp_in_nI hy8 (by decide)) (y) (nI_clamp (by omega)) hq dX0_setTo_71 ?_
    refine x_iload_n h dX0_setTo_72 rfl ?_
    refine x_putiN h p_X0_54 hqn hqT rfl rfl rfl dX0_setTo_73 (fun J73 eJ73 => ?_)
    refine x_goto h 113 dX0_setTo_76 rfl ?_
    exact x_vret h dX0_setTo_113 rfl (xpE.to rfl (by unfold kset; first | (rw [if_pos s1_0, eJ47]; done) | (rw [s1_1, if_neg (by decide), if_pos rfl, eJ60]; done) | (rw [s1_2, if_neg (by decide), if_neg (by decide), if_pos rfl, eJ73]; done) | (rw [s1_3, if_neg (by decide), if_neg (by decide), if_neg (by decide), if_pos rfl, eJ86]; done) | (rw [s1_4, if_neg (by decide), if_neg (by decide), if_neg (by decide), if_neg (by decide), if_pos rfl, eJ94]; done) | (rw [s1_5, if_neg (by decide), if_neg (by decide), if_neg (by decide), if_neg (by decide), if_neg (by decide), if_pos rfl, eJ102]; done) | (rw [if_neg s1_0, if_neg s1_1, if_neg s1_2, if_neg s1_3, if_neg s1_4, if_neg s1_5, eJ110]; done)) rfl rfl)
  by_cases s1_3 : w = 3
  · skip
    refine x_tabIn h 79 dX0_setTo_1 (by rw [s1_3]; decide) (by rw [s1_3]; decide) (by rw [s1_3]; rfl) rfl ?_
    obtain ⟨y, hy8, ey, hq, ⟨-, hqn⟩, hqT⟩ := hQ (by rw [s1_3]; decide)
    refine x_aload_n h dX0_setTo_79 rfl ?_
    refine x_getr h (j := 1) g_X0_15 (mlt hC.1 rfl) (hC.2.1 _ _ rfl) (by decide) (hC.2.2 _ _ _ rfl) dX0_setTo_80 ?_
    refine x_iload_n h dX0_setTo_83 rfl ?_
    refine x_eqi (nI y) ey ?_
    refine x_aaldr h (q := q) (mlt hC.1 rfl) (hC.2.1 _ _ rfl) (by decide) rfl rfl (vp_in_nI hy8 (by decide)) (y) (nI_clamp (by omega)) hq dX0_setTo_84 ?_
    refine x_iload_n h dX0_setTo_85 rfl ?_
    refine x_putiN h p_X0_57 hqn hqT rfl rfl rfl dX0_setTo_86 (fun J86 eJ86 => ?_)
    refine x_goto h 113 dX0_setTo_89 rfl ?_
    exact x_vret h dX0_setTo_113 rfl (xpE.to rfl (by unfold kset; first | (rw [if_pos s1_0, eJ47]; done) | (rw [s1_1, if_neg (by decide), if_pos rfl, eJ60]; done) | (rw [s1_2, if_neg (by decide), if_neg (by decide), if_pos rfl, eJ73]; done) | (rw [s1_3, if_neg (by decide), if_neg (by decide), if_neg (by decide), if_pos rfl, eJ86]; done) | (rw [s1_4, if_neg (by decide), if_neg (by decide), if_neg (by decide), if_neg (by decide), if_pos rfl, eJ94]; done) | (rw [s1_5, if_neg (by decide), if_neg (by decide), if_neg (by decide), if_neg (by decide), if_neg (by decide), if_pos rfl, eJ102]; done) | (rw [if_neg s1_0, if_neg s1_1, if_neg s1_2, if_neg s1_3, if_neg s1_4, if_neg s1_5, eJ110]; done)) rfl rfl)
  by_cases s1_4 : w = 4
  · skip
    refine x_tabIn h 92 dX0_setTo_1 (by rw [s1_4]; decide) (by rw [s1_4]; decide) (by rw [s1_4]; rfl) rfl ?_
    refine x_aload_n h dX0_setTo_92 rfl ?_
    refine x_iload_n h dX0_setTo_93 rfl ?_
    refine x_puti h p_X0_60 (mlt hC.1 rfl) (hC.2.1 _ _ rfl) rfl rfl rfl dX0_setTo_94 (fun J94 eJ94 => ?_)
    refine x_goto h 113 dX0_setTo_97 rfl ?_
    exact x_vret h dX0_setTo_113 rfl (xpE.to rfl (by unfold kset; first | (rw [if_pos s1_0, eJ47]; done) | (rw [s1_1, if_neg (by decide), if_pos rfl, eJ60]; done) | (rw [s1_2, if_neg (by decide), if_neg (by decide), if_pos rfl, eJ73]; done) | (rw [s1_3, if_neg (by decide), if_neg (by decide), if_neg (by decide), if_pos rfl, eJ86]; done) | (rw [s1_4, if_neg (by decide), if_neg (by decide), if_neg (by decide), if_neg (by decide), if_pos rfl, eJ94]; done) | (rw [s1_5, if_neg (by decide), if_neg (by decide), if_neg (by decide), if_neg (by decide), if_neg (by decide), if_pos rfl, eJ102]; done) | (rw [if_neg s1_0, if_neg s1_1, if_neg s1_2, if_neg s1_3, if_neg s1_4, if_neg s1_5, eJ110]; done)) rfl rfl)
  by_cases s1_5 : w = 5
  · skip
    refine x_tabIn h 100 dX0_setTo_1 (by rw [s1_5]; decide) (by rw [s1_5]; decide) (by rw [s1_5]; rfl) rfl ?_
    refine x_aload_n h dX0_setTo_100 rfl ?_
    refine x_iload_n h dX0_setTo_101 rfl ?_
    refine x_puti h p_X0_63 (mlt hC.1 rfl) (hC.2.1 _ _ rfl) rfl rfl rfl dX0_setTo_102 (fun J102 eJ102 => ?_)
    refine x_goto h 113 dX0_setTo_105 rfl ?_
    exact x_vret h dX0_setTo_113 rfl (xpE.to rfl (by unfold kset; first | (rw [if_pos s1_0, eJ47]; done) | (rw [s1_1, if_neg (by decide), if_pos rfl, eJ60]; done) | (rw [s1_2, if_neg (by decide), if_neg (by decide), if_pos rfl, eJ73]; done) | (rw [s1_3, if_neg (by decide), if_neg (by decide), if_neg (by decide), if_pos rfl, eJ86]; done) | (rw [s1_4, if_neg (by decide), if_neg (by decide), if_neg (by decide), if_neg (by decide), if_pos rfl, eJ94]; done) | (rw [s1_5, if_neg (by decide), if_neg (by decide), if_neg (by decide), if_neg (by decide), if_neg (by decide), if_pos rfl, eJ102]; done) | (rw [if_neg s1_0, if_neg s1_1, if_neg s1_2, if_neg s1_3, if_neg s1_4, if_neg s1_5, eJ110]; done)) rfl rfl)
  refine x_tabD h 108 dX0_setTo_1 rfl (fun j hj => match j, hj with | 0, _ => Or.inr (xsw_ne s1_0 rfl) | 1, _ => Or.inr (xsw_ne s1_1 rfl) | 2, _ => Or.inr (xsw_ne s1_2 rfl) | 3, _ => Or.inr (xsw_ne s1_3 rfl) | 4, _ => Or.inr (xsw_ne s1_4 rfl) | 5, _ => Or.inr (xsw_ne s1_5 rfl) | j + 6, hj => absurd hj (by simp)) rfl ?_
  refine x_aload_n h dX0_setTo_108 rfl ?_
  refine x_iload_n h dX0_setTo_109 rfl ?_
  refine x_puti h p_X0_66 (mlt hC.1 rfl) (hC.2.1 _ _ rfl) rfl rfl rfl dX0_setTo_110 (fun J110 eJ110 => ?_)
  exact x_vret h dX0_setTo_113 rfl (xpE.to rfl (by unfold kset; first | (rw [if_pos s1_0, eJ47]; done) | (rw [s1_1, if_neg (by decide), if_pos rfl, eJ60]; done) | (rw [s1_2, if_neg (by decide), if_neg (by decide), if_pos rfl, eJ73]; done) | (rw [s1_3, if_neg (by decide), if_neg (by decide), if_neg (by decide), if_pos rfl, eJ86]; done) | (rw [s1_4, if_neg (by decide), if_neg (by decide), if_neg (by decide), if_neg (by decide), if_pos rfl, eJ94]; done) | (rw [s1_5, if_neg (by decide), if_neg (by decide), if_neg (by decide), if_neg (by decide), if_neg (by decide), if_pos rfl, eJ102]; done) | (rw [if_neg s1_0, if_neg s1_1, if_neg s1_2, if_neg s1_3, if_neg s1_4, if_neg s1_5, eJ110]; done)) rfl rfl)
