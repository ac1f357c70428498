/-! WALKS OF THE COMPONENT: what one buys -/
theorem g_X0_63 : xfg RX0 63 0 3 := ⟨_, _, _, rfl, by decide, in_X0, q709, rfl⟩
theorem g_X0_15 : xfg RX0 15 0 0 := ⟨_, _, _, rfl, by decide, in_X0, q706, rfl⟩
theorem g_X0_57 : xfgN RX0 57 4 3 := ⟨_, _, _, _, rfl, by decide, in_X4, q170, rfl⟩
theorem g_X0_207 : xfgN RX0 207 2 0 := ⟨_, _, _, _, rfl, by decide, in_X2, q659, rfl⟩
theorem g_X0_213 : xfgN RX0 213 2 9 := ⟨_, _, _, _, rfl, by decide, in_X2, q677, rfl⟩
theorem p_X0_213 : xfpN RX0 213 2 9 (tyX2 9) := ⟨_, _, _, _, tyX2, rfl, by decide, in_X2, q677, rfl, tyX2_ok, nmX2, tyX2_ok 9 (by decide), rfl⟩
theorem g_X0_240 : xfg RX0 240 0 16 := ⟨_, _, _, rfl, by decide, in_X0, q724, rfl⟩
theorem p_X0_240 : xfp RX0 240 0 16 (tyX0 16) false := ⟨_, _, _, tyX0, rfl, by decide, in_X0, q724, rfl, tyX0_ok, nmX0, tyX0_ok 16 (by decide), rfl⟩
theorem g_X0_180 : xfg RX0 180 0 14 := ⟨_, _, _, rfl, by decide, in_X0, q722, rfl⟩
theorem g_X0_209 : xfgN RX0 209 2 1 := ⟨_, _, _, _, rfl, by decide, in_X2, q661, rfl⟩
theorem g_X0_54 : xfgN RX0 54 4 2 := ⟨_, _, _, _, rfl, by decide, in_X4, q169, rfl⟩
theorem g_X0_220 : xfgN RX0 220 2 2 := ⟨_, _, _, _, rfl, by decide, in_X2, q663, rfl⟩
theorem g_X0_223 : xfgN RX0 223 1 0 := ⟨_, _, _, _, rfl, by decide, in_X1, q647, rfl⟩
theorem g_X0_226 : xfgN RX0 226 2 6 := ⟨_, _, _, _, rfl, by decide, in_X2, q671, rfl⟩
theorem g_X0_212 : xfgN RX0 212 2 8 := ⟨_, _, _, _, rfl, by decide, in_X2, q675, rfl⟩
theorem m_X0_229 : xcv RX0 229 0 yX0_gives cX0_gives 2 (some .int) 0 := ⟨_, _, _, rfl, lw_V q908 q910 qs29 q99 q911, rfl, by decide +kernel, by decide +kernel, by decide +kernel⟩
set_option maxHeartbeats 4000000 in
theorem k0_counts (l : Launch) (G : xG_T) (n : Nat) (Ty : Nat → xs_T) (F : xF_T) (hC : WC n Ty F) (I : xI_T) (L : xL_T) (J : xI_T) (x : Nat) (hK : KB n Ty I F J) (hb8 : ix (J 70 0) ≤ 8) (hx : x < ix (J 70 0)) : CE l (0) yX0_counts cX0_counts 2 (some .boolean) G n Ty F [.ref (xb G + 0), .int (nI x)] I L (some (.int (if m_out J (nI x) = true then 0 else 1))) (I) := by
  refine Cg.intro (cls := RX0) (pad := 0) (lv := [some (.ref (xb G + 0)), some (.int (nI x))]) rfl (by decide) (Nat.le_of_ble_eq_true rfl) rfl (fun Θ h => ?_)
  obtain ⟨q, hq, ⟨hq103, hqn⟩, hqT, hq2, hq3, hq4⟩ := hK.2.2 x hx
  refine x_aload_n h dX0_counts_0 rfl ?_
  refine x_geti h g_X0_63 (mlt hC.1 rfl) (hC.2.1 _ _ rfl) rfl dX0_counts_1 ?_
  refine x_iconst h dX0_counts_4 (1) rfl ?_
  refine x_icmp_eq h 20 dX0_counts_5 rfl (fun c5 => ?_) (fun c5 => ?_)
  · skip
    have ho : ¬ m_out J (nI x) = true := fun z => by have := ((out_iff (by omega)).mp z).2; rw [hK.2.1.1, this] at c5; exact absurd c5 (by decide)
    refine x_iconst h dX0_counts_20 (1) rfl ?_
    refine x_goto h 25 dX0_counts_21 rfl ?_
    exact x_zret h dX0_counts_25 rfl rfl (xpE.to (by first | rw [if_pos ho] | rw [if_neg ho]) rfl rfl rfl)
  · skip
    have hd0 : J 70 3 = 0 := hK.2.1.2.resolve_right (fun z => c5 (by rw [hK.2.1.1]; exact z))
    refine x_aload_n h dX0_counts_8 rfl ?_
    refine x_getr h (j := 1) g_X0_15 (mlt hC.1 rfl) (hC.2.1 _ _ rfl) (by decide) (hC.2.2 _ _ _ rfl) dX0_counts_9 ?_
    refine x_iload_n h dX0_counts_12 rfl ?_
    refine x_aaldr h (q := q) (mlt hC.1 rfl) (hC.2.1 _ _ rfl) (by decide) rfl rfl (vp_in_nI (by omega) (by first | decide | omega)) (x) (nI_clamp (by omega)) hq dX0_counts_13 ?_
    refine x_getiN h g_X0_57 hqn hqT rfl dX0_counts_14 ?_
    refine x_if_ne h 24 dX0_counts_17 rfl (fun c17 => ?_) (fun c17 => ?_)
    · skip
      have ho : m_out J (nI x) = true := (out_iff (by omega)).mpr ⟨hq4.resolve_left (fun z => c17 (by rw [hq3]; exact z)), hd0⟩
      refine x_iconst h dX0_counts_24 (0) rfl ?_
      exact x_zret h dX0_counts_25 rfl rfl (xpE.to (by first | rw [if_pos ho] | rw [if_neg ho]) rfl rfl rfl)
    · skip
      have ho : ¬ m_out J (nI x) = true := fun z => by have := ((out_iff (by omega)).mp z).1; rw [hq3, this] at c17; exact absurd c17 (by decide)
      refine x_iconst h dX0_counts_20 (1) rfl ?_
      refine x_goto h 25 dX0_counts_21 rfl ?_
      exact x_zret h dX0_counts_25 rfl rfl (xpE.to (by first | rw [if_pos ho] | rw [if_neg ho]) rfl rfl rfl)
set_option maxHeartbeats 4000000 in
theorem k0_pays (l : Launch) (G : xG_T) (n : Nat) (Ty : Nat → xs_T) (F : xF_T) (hC : WC n Ty F) (I : xI_T) (L : xL_T) (g : Nat) (f : Int32) (o : Int32) (t : Int32) (hg : mkT n Ty F g) (hf : vp_in f 8) (ht : vp_in t 8) : CE l (2) yX0_pays cX0_pays 6 (none) G n Ty F [.ref (xb G + 0), .ref (xb G + g), .int f, .int o, .int t] I L (none) (k_pays I g f o t) := by
  refine Cg.intro (cls := RX0) (pad := 1) (lv := [some (.ref (xb G + 0)), some (.ref (xb G + g)), some (.int f), some (.int o), some (.int t), none]) rfl (by decide) (Nat.le_of_ble_eq_true rfl) rfl (fun Θ h => ?_)
  have hfx : ix f < 8 := (nI_ix hf (by decide)).2
  have hpd := paid_at hC (ix f) hfx
  refine x_iload_n h dX0_pays_0 rfl ?_
  refine x_iload h dX0_pays_1 rfl ?_
  refine x_icmp_ne h 7 dX0_pays_3 rfl (fun c3 => ?_) (fun c3 => ?_)
  · skip
    refine x_iload_n h dX0_pays_7 rfl ?_
    refine x_aload_n h dX0_pays_8 rfl ?_
    refine x_getrN h (j := g + 1) g_X0_207 hg.l0 hg.1.2 (by decide) hg.2.2.1 dX0_pays_9 ?_
    refine x_iload_n h dX0_pays_12 rfl ?_
    refine x_iald h hg.l1 hg.2.1.1 hf _ rfl dX0_pays_13 ?_
    refine x_mmin h q903 (by decide) ⟨by decide, by decide⟩ (Nat.le_of_ble_eq_true rfl) dX0_pays_14 ?_
    refine x_nmi (fun v17 ev17 => ?_)
    refine x_istore h dX0_pays_17 (by decide) [some (.ref (xb G + 0)), some (.ref (xb G + g)), some (.int f), some (.int o), some (.int t), some (.int v17)] rfl ?_
    refine x_aload_n h dX0_pays_19 rfl ?_
    refine x_dup h dX0_pays_20 rfl ?_
    refine x_getiN h g_X0_213 hg.l0 hg.1.2 rfl dX0_pays_21 ?_
    refine x_iload_n h dX0_pays_24 rfl ?_
    refine x_iload h dX0_pays_25 rfl ?_
    refine x_isub h dX0_pays_27 ?_
    refine x_iadd h dX0_pays_28 ?_
    refine x_putiN h p_X0_213 hg.l0 hg.1.2 rfl rfl rfl dX0_pays_29 (fun J29 eJ29 => ?_)
    refine x_aload_n h dX0_pays_32 rfl ?_
    refine x_getrN h (j := g + 1) g_X0_207 hg.l0 hg.1.2 (by decide) hg.2.2.1 dX0_pays_33 ?_
    refine x_iload_n h dX0_pays_36 rfl ?_
    refine x_dup2_11 h dX0_pays_37 rfl rfl ?_
    refine x_iald h hg.l1 hg.2.1.1 hf _ rfl dX0_pays_38 ?_
    refine x_iload h dX0_pays_39 rfl ?_
    refine x_isub h dX0_pays_41 ?_
    refine x_iast h hg.l1 hg.2.1.1 hf _ rfl dX0_pays_42 (fun J42 eJ42 => ?_)
    refine x_aload_n h dX0_pays_43 rfl ?_
    refine x_getrN h (j := g + 1) g_X0_207 hg.l0 hg.1.2 (by decide) hg.2.2.1 dX0_pays_44 ?_
    refine x_iload h dX0_pays_47 rfl ?_
    refine x_sipush h dX0_pays_49 (999) rfl ?_
    refine x_aload_n h dX0_pays_52 rfl ?_
    refine x_getrN h (j := g + 1) g_X0_207 hg.l0 hg.1.2 (by decide) hg.2.2.1 dX0_pays_53 ?_
    refine x_iload h dX0_pays_56 rfl ?_
    refine x_iald h hg.l1 hg.2.1.1 ht _ rfl dX0_pays_58 ?_
    refine x_iload h dX0_pays_59 rfl ?_
    refine x_iadd h dX0_pays_61 ?_
    refine x_mmin h q903 (by decide) ⟨by decide, by decide⟩ (Nat.le_of_ble_eq_true rfl) dX0_pays_62 ?_
    refine x_iast h hg.l1 hg.2.1.1 ht _ rfl dX0_pays_65 (fun J65 eJ65 => ?_)
    refine x_aload_n h dX0_pays_66 rfl ?_
    refine x_dup h dX0_pays_67 rfl ?_
    refine x_geti h g_X0_240 (mlt hC.1 rfl) (hC.2.1 _ _ rfl) rfl dX0_pays_68 ?_
    refine x_iload h dX0_pays_71 rfl ?_
    refine x_iadd h dX0_pays_73 ?_
    refine x_puti h p_X0_240 (mlt hC.1 rfl) (hC.2.1 _ _ rfl) rfl rfl rfl dX0_pays_74 (fun J74 eJ74 => ?_)
    refine x_aload_n h dX0_pays_77 rfl ?_
    refine x_getr h (j := 13) g_X0_180 (mlt hC.1 rfl) (hC.2.1 _ _ rfl) (by decide) (hC.2.2 _ _ _ rfl) dX0_pays_78 ?_
    refine x_iload_n h dX0_pays_81 rfl ?_
    refine x_aaldr h (q := 14 + ix f) (mlt hC.1 rfl) (hC.2.1 _ _ rfl) (by decide) rfl rfl hf _ rfl hpd.1 dX0_pays_82 ?_
    refine x_iload h dX0_pays_83 rfl ?_
    refine x_dup2_11 h dX0_pays_85 rfl rfl ?_
    refine x_iald h (Nat.lt_of_lt_of_le (show 14 + ix f < 103 by omega) hC.1) hpd.2 ht _ rfl dX0_pays_86 ?_
    refine x_iload h dX0_pays_87 rfl ?_
    refine x_iadd h dX0_pays_89 ?_
    refine x_iast h (Nat.lt_of_lt_of_le (show 14 + ix f < 103 by omega) hC.1) hpd.2 ht _ rfl dX0_pays_90 (fun J90 eJ90 => ?_)
    exact x_vret h dX0_pays_91 rfl (xpE.to rfl (by unfold k_pays; rw [if_neg c3]; subst_vars; rfl) rfl rfl)
  · skip
    exact x_vret h dX0_pays_6 rfl (xpE.to rfl (by unfold k_pays; rw [if_pos c3]) rfl rfl)
set_option maxHeartbeats 4000000 in
theorem k0_buysFor (l : Launch) (G : xG_T) (n : Nat) (Ty : Nat → xs_T) (F : xF_T) (hC : WC n Ty F) (I : xI_T) (L : xL_T) (J : xI_T) (g x : Nat) (p : Int32) (hg : mkT n Ty F g) (hg34 : 34 ≤ g) (hS : KS n Ty I F J) (hR : RC I J g) (hW : Wlaw J) (hb8 : ix (J 70 0) ≤ 8) (hx : x < ix (J 70 0)) : CR l (260) yX0_buysFor cX0_buysFor 5 (some .int) G n Ty F [.ref (xb G + 0), .ref (xb G + g), .int (nI x), .int p] I L (aR (fun r I2 => r = (m_buys J (nI x) p).1 ∧ Fr (fun q _ => q = 5) I I2)) := by
  refine Cg.intro (cls := RX0) (pad := 1) (lv := [some (.ref (xb G + 0)), some (.ref (xb G + g)), some (.int (nI x)), some (.int p), none]) rfl (by decide) (Nat.le_of_ble_eq_true rfl) rfl (fun Θ h => ?_)
  have hK := hS.1
  obtain ⟨q, hq, ⟨hq103, hqn⟩, hqT, hq2, hq3, hq4⟩ := hK.2.2 x hx
  obtain ⟨rw1, rw2, rw3⟩ := hR.1 x hx
  have hx8 : x < 8 := by omega
  refine x_iconst h dX0_buysFor_0 (5) rfl ?_
  refine x_aload_n h dX0_buysFor_1 rfl ?_
  refine x_getrN h (j := g + 2) g_X0_209 hg.l0 hg.1.2 (by decide) hg.2.2.2.1 dX0_buysFor_2 ?_
  refine x_iload_n h dX0_buysFor_5 rfl ?_
  refine x_iald h hg.l2 hg.2.1.2.1 (vp_in_nI (show x < 8 by omega) (by decide)) (x) (nI_clamp (by omega)) dX0_buysFor_6 ?_
  refine x_imul h dX0_buysFor_7 ?_
  refine x_aload_n h dX0_buysFor_8 rfl ?_
  refine x_getr h (j := 1) g_X0_15 (mlt hC.1 rfl) (hC.2.1 _ _ rfl) (by decide) (hC.2.2 _ _ _ rfl) dX0_buysFor_9 ?_
  refine x_iload_n h dX0_buysFor_12 rfl ?_
  refine x_aaldr h (q := q) (mlt hC.1 rfl) (hC.2.1 _ _ rfl) (by decide) rfl rfl (vp_in_nI (show x < 8 by omega) (by decide)) (x) (nI_clamp (by omega)) hq dX0_buysFor_13 ?_
  refine x_getiN h g_X0_54 hqn hqT rfl dX0_buysFor_14 ?_
  refine x_iadd h dX0_buysFor_17 ?_
  refine x_iconst h dX0_buysFor_18 (2) rfl ?_
  refine x_aload_n h dX0_buysFor_19 rfl ?_
  refine x_getrN h (j := g + 3) g_X0_220 hg.l0 hg.1.2 (by decide) hg.2.2.2.2.1 dX0_buysFor_20 ?_
  refine x_iload_n h dX0_buysFor_23 rfl ?_
  refine x_iald h hg.l3 hg.2.1.2.2.1 (vp_in_nI (show x < 8 by omega) (by decide)) (x) (nI_clamp (by omega)) dX0_buysFor_24 ?_
  refine x_imul h dX0_buysFor_25 ?_
  refine x_isub h dX0_buysFor_26 ?_
  refine x_nmi (fun v27 ev27 => ?_)
  refine x_istore h dX0_buysFor_27 (by decide) [some (.ref (xb G + 0)), some (.ref (xb G + g)), some (.int (nI x)), some (.int p), some (.int v27)] rfl ?_
  refine x_aload_n h dX0_buysFor_29 rfl ?_
  rcases hS.2 with ⟨h7, hnul⟩ | ⟨h7, hne, hlin⟩
  · skip
    refine x_getn h g_X0_133 (mlt hC.1 rfl) (hC.2.1 _ _ rfl) (by decide) hnul dX0_buysFor_30 ?_
    refine x_ifnullN h 132 dX0_buysFor_33 rfl ?_
    refine x_iconst h dX0_buysFor_132 (0) rfl ?_
    refine x_bipush h dX0_buysFor_133 (99) rfl ?_
    refine x_iload h dX0_buysFor_135 rfl ?_
    refine x_mmin h q903 (by decide) ⟨by decide, by decide⟩ (Nat.le_of_ble_eq_true rfl) dX0_buysFor_137 ?_
    refine x_mmax h q936 (by decide) ⟨by decide, by decide⟩ (Nat.le_of_ble_eq_true rfl) dX0_buysFor_140 ?_
    exact x_iret h dX0_buysFor_143 rfl ⟨rfl, rfl, rfl, rfl, _, rfl, by rw [buys_n h7 hx8, ev27, rw2, hq2, rw3], Fr.rf⟩
  · skip
    obtain ⟨q0, hq0⟩ : ∃ q0 : Nat, F 0 10 = some q0 := Option.ne_none_iff_exists'.mp hne
    refine x_getr h (j := q0) g_X0_133 (mlt hC.1 rfl) (hC.2.1 _ _ rfl) (by decide) hq0 dX0_buysFor_30 ?_
    refine x_ifnull h dX0_buysFor_33 ?_
    refine x_aload_n h dX0_buysFor_36 rfl ?_
    refine x_getr h (j := 4) g_X0_143 (mlt hC.1 rfl) (hC.2.1 _ _ rfl) (by decide) (hC.2.2 _ _ _ rfl) dX0_buysFor_37 ?_
    refine x_getrN h (j := 5) g_X0_223 (mlt hC.1 rfl) (hC.2.1 _ _ rfl) (by decide) (hC.2.2 _ _ _ rfl) dX0_buysFor_40 ?_
    refine x_bipush h dX0_buysFor_43 (119) rfl ?_
    refine x_aload_n h dX0_buysFor_45 rfl ?_
    refine x_getrN h (j := g + 2) g_X0_209 hg.l0 hg.1.2 (by decide) hg.2.2.2.1 dX0_buysFor_46 ?_
    refine x_iload_n h dX0_buysFor_49 rfl ?_
    refine x_iald h hg.l2 hg.2.1.2.1 (vp_in_nI (show x < 8 by omega) (by decide)) (x) (nI_clamp (by omega)) dX0_buysFor_50 ?_
    refine x_iast h (mlt hC.1 rfl) (hC.2.1 _ _ rfl) (xk rfl) 119 rfl dX0_buysFor_51 (fun J51 eJ51 => ?_)
    refine x_aload_n h dX0_buysFor_52 rfl ?_
    refine x_getr h (j := 4) g_X0_143 (mlt hC.1 rfl) (hC.2.1 _ _ rfl) (by decide) (hC.2.2 _ _ _ rfl) dX0_buysFor_53 ?_
    refine x_getrN h (j := 5) g_X0_223 (mlt hC.1 rfl) (hC.2.1 _ _ rfl) (by decide) (hC.2.2 _ _ _ rfl) dX0_buysFor_56 ?_
    refine x_bipush h dX0_buysFor_59 (112) rfl ?_
    refine x_iload_n h dX0_buysFor_61 rfl ?_
    refine x_iast h (mlt hC.1 rfl) (hC.2.1 _ _ rfl) (xk rfl) 112 rfl dX0_buysFor_62 (fun J62 eJ62 => ?_)
    refine x_aload_n h dX0_buysFor_63 rfl ?_
    refine x_getr h (j := 4) g_X0_143 (mlt hC.1 rfl) (hC.2.1 _ _ rfl) (by decide) (hC.2.2 _ _ _ rfl) dX0_buysFor_64 ?_
    refine x_getrN h (j := 5) g_X0_223 (mlt hC.1 rfl) (hC.2.1 _ _ rfl) (by decide) (hC.2.2 _ _ _ rfl) dX0_buysFor_67 ?_
    refine x_bipush h dX0_buysFor_70 (104) rfl ?_
    refine x_aload_n h dX0_buysFor_72 rfl ?_
    refine x_getr h (j := 1) g_X0_15 (mlt hC.1 rfl) (hC.2.1 _ _ rfl) (by decide) (hC.2.2 _ _ _ rfl) dX0_buysFor_73 ?_
    refine x_iload_n h dX0_buysFor_76 rfl ?_
    refine x_aaldr h (q := q) (mlt hC.1 rfl) (hC.2.1 _ _ rfl) (by decide) rfl rfl (vp_in_nI (show x < 8 by omega) (by decide)) (x) (nI_clamp (by omega)) hq dX0_buysFor_77 ?_
    refine x_getiN h g_X0_54 hqn hqT rfl dX0_buysFor_78 ?_
    refine x_iast h (mlt hC.1 rfl) (hC.2.1 _ _ rfl) (xk rfl) 104 rfl dX0_buysFor_81 (fun J81 eJ81 => ?_)
    refine x_aload_n h dX0_buysFor_82 rfl ?_
    refine x_getr h (j := 4) g_X0_143 (mlt hC.1 rfl) (hC.2.1 _ _ rfl) (by decide) (hC.2.2 _ _ _ rfl) dX0_buysFor_83 ?_
    refine x_getrN h (j := 5) g_X0_223 (mlt hC.1 rfl) (hC.2.1 _ _ rfl) (by decide) (hC.2.2 _ _ _ rfl) dX0_buysFor_86 ?_
    refine x_bipush h dX0_buysFor_89 (110) rfl ?_
    refine x_aload_n h dX0_buysFor_91 rfl ?_
    refine x_getiN h g_X0_226 hg.l0 hg.1.2 rfl dX0_buysFor_92 ?_
    refine x_iast h (mlt hC.1 rfl) (hC.2.1 _ _ rfl) (xk rfl) 110 rfl dX0_buysFor_95 (fun J95 eJ95 => ?_)
    refine x_aload_n h dX0_buysFor_96 rfl ?_
    refine x_getr h (j := 4) g_X0_143 (mlt hC.1 rfl) (hC.2.1 _ _ rfl) (by decide) (hC.2.2 _ _ _ rfl) dX0_buysFor_97 ?_
    refine x_getrN h (j := 5) g_X0_223 (mlt hC.1 rfl) (hC.2.1 _ _ rfl) (by decide) (hC.2.2 _ _ _ rfl) dX0_buysFor_100 ?_
    refine x_bipush h dX0_buysFor_103 (111) rfl ?_
    refine x_aload_n h dX0_buysFor_105 rfl ?_
    refine x_getrN h (j := g + 3) g_X0_220 hg.l0 hg.1.2 (by decide) hg.2.2.2.2.1 dX0_buysFor_106 ?_
    refine x_iload_n h dX0_buysFor_109 rfl ?_
    refine x_iald h hg.l3 hg.2.1.2.2.1 (vp_in_nI (show x < 8 by omega) (by decide)) (x) (nI_clamp (by omega)) dX0_buysFor_110 ?_
    refine x_iast h (mlt hC.1 rfl) (hC.2.1 _ _ rfl) (xk rfl) 111 rfl dX0_buysFor_111 (fun J111 eJ111 => ?_)
    refine x_aload_n h dX0_buysFor_112 rfl ?_
    refine x_getr h (j := 4) g_X0_143 (mlt hC.1 rfl) (hC.2.1 _ _ rfl) (by decide) (hC.2.2 _ _ _ rfl) dX0_buysFor_113 ?_
    refine x_getrN h (j := 5) g_X0_223 (mlt hC.1 rfl) (hC.2.1 _ _ rfl) (by decide) (hC.2.2 _ _ _ rfl) dX0_buysFor_116 ?_
    refine x_bipush h dX0_buysFor_119 (100) rfl ?_
    refine x_aload_n h dX0_buysFor_121 rfl ?_
    refine x_getiN h g_X0_212 hg.l0 hg.1.2 rfl dX0_buysFor_122 ?_
    refine x_iast h (mlt hC.1 rfl) (hC.2.1 _ _ rfl) (xk rfl) 100 rfl dX0_buysFor_125 (fun J125 eJ125 => ?_)
    refine x_aload_n h dX0_buysFor_126 rfl ?_
    have hv := buys_lines (x := x) (p := p) hlin hq0 hW
    obtain ⟨m0, hm0, hl0, hW0⟩ := hv
    have hl1 := hl0.mv (I' := J125) (fun q k hq9 => by rw [eJ125, eJ111, eJ95, eJ81, eJ62, eJ51, up2_i _ _ (by omega), up2_i _ _ (by omega), up2_i _ _ (by omega), up2_i _ _ (by omega), up2_i _ _ (by omega), up2_i _ _ (by omega)]) (fun _ _ _ _ => rfl) _ _ _
    have hN0 : NM J125 (m_names (up2 J 83 1 p) (nI x) 83) := buys_nm hx8 hR hq2 hq103 hx hg34 eJ51 eJ62 eJ81 eJ95 eJ111 eJ125
    refine x_callVEi h (As := []) (kX0_gives l G n _ _ hC _ _ (m_names (up2 J 83 1 p) (nI x)) m0 q0 hq0 (by rw [← hq0]; exact hl1) hm0 hN0 hW0) m_X0_229 (mlt hC.1 rfl) (hC.2.1 _ _ rfl) dX0_buysFor_127 ⟨by decide, by decide⟩ ⟨by decide, by decide⟩ rfl (Nat.le_of_ble_eq_true rfl) ?_
    refine x_nmi (fun v130 ev130 => ?_)
    refine x_istore h dX0_buysFor_130 (by decide) [some (.ref (xb G + 0)), some (.ref (xb G + g)), some (.int (nI x)), some (.int p), some (.int v130)] rfl ?_
    refine x_iconst h dX0_buysFor_132 (0) rfl ?_
    refine x_bipush h dX0_buysFor_133 (99) rfl ?_
    refine x_iload h dX0_buysFor_135 rfl ?_
    refine x_mmin h q903 (by decide) ⟨by decide, by decide⟩ (Nat.le_of_ble_eq_true rfl) dX0_buysFor_137 ?_
    refine x_mmax h q936 (by decide) ⟨by decide, by decide⟩ (Nat.le_of_ble_eq_true rfl) dX0_buysFor_140 ?_
    exact x_iret h dX0_buysFor_143 rfl ⟨rfl, rfl, rfl, rfl, _, rfl, by rw [buys_1 (by rw [up2_i _ _ (by decide)]; exact h7), ev130]; rfl, by rw [eJ125, eJ111, eJ95, eJ81, eJ62, eJ51]; exact ((((((Fr.rf (S := fun q _ => q = 5)).up rfl).up rfl).up rfl).up rfl).up rfl).up rfl⟩
