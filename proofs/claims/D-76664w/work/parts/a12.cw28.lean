/-! WALKS OF THE COMPONENT: new buyers, changes -/
theorem p_X5_7 : xfp RX5 7 5 0 (tyX5 0) true := ⟨_, _, _, tyX5, rfl, by decide, in_X5, q362, rfl, tyX5_ok, nmX5, tyX5_ok 0 (by decide), rfl⟩
theorem p_X5_13 : xfp RX5 13 5 1 (tyX5 1) true := ⟨_, _, _, tyX5, rfl, by decide, in_X5, q364, rfl, tyX5_ok, nmX5, tyX5_ok 1 (by decide), rfl⟩
theorem p_X5_16 : xfp RX5 16 5 2 (tyX5 2) true := ⟨_, _, _, tyX5, rfl, by decide, in_X5, q366, rfl, tyX5_ok, nmX5, tyX5_ok 2 (by decide), rfl⟩
theorem p_X5_19 : xfp RX5 19 5 3 (tyX5 3) true := ⟨_, _, _, tyX5, rfl, by decide, in_X5, q368, rfl, tyX5_ok, nmX5, tyX5_ok 3 (by decide), rfl⟩
theorem p_X4_7 : xfp RX4 7 4 0 (tyX4 0) false := ⟨_, _, _, tyX4, rfl, by decide, in_X4, q164, rfl, tyX4_ok, nmX4, tyX4_ok 0 (by decide), rfl⟩
theorem p_X4_13 : xfp RX4 13 4 1 (tyX4 1) false := ⟨_, _, _, tyX4, rfl, by decide, in_X4, q166, rfl, tyX4_ok, nmX4, tyX4_ok 1 (by decide), rfl⟩
theorem p_X4_16 : xfp RX4 16 4 2 (tyX4 2) false := ⟨_, _, _, tyX4, rfl, by decide, in_X4, q168, rfl, tyX4_ok, nmX4, tyX4_ok 2 (by decide), rfl⟩
theorem k5_init (l : Launch) (G : xG_T) (n : Nat) (Ty : Nat → xs_T) (F : xF_T) (I : xI_T) (L : xL_T) (q : Nat) (w b x v : Int32) (hqn : q < n) (hqT : Ty q = some (.inl 5)) : Cg l (1) 0 0 yX5_init cX5_init 5 none G idC [.ref (xb G + q), .int w, .int b, .int x, .int v] n Ty I L F (xpE none n Ty (up2 (up2 (up2 (up2 I q 0 w) q 1 b) q 2 x) q 3 v) L (F)) := by
  refine Cg.intro (cls := RX5) (pad := 0) (lv := [some (.ref (xb G + q)), some (.int w), some (.int b), some (.int x), some (.int v)]) rfl (by decide) (Nat.le_of_ble_eq_true rfl) rfl (fun Θ h => ?_)
  refine x_aload_n h dX5_init_0 rfl ?_
  refine x_objInit h q361 q162 q163 (by decide) (Nat.le_of_ble_eq_true rfl) dX5_init_1 ?_
  refine x_aload_n h dX5_init_4 rfl ?_
  refine x_iload_n h dX5_init_5 rfl ?_
  refine x_putiF h p_X5_7 hqn hqT rfl rfl (fun C T N q => by cases q; rfl) rfl rfl dX5_init_6 (fun J6 eJ6 => ?_)
  refine x_aload_n h dX5_init_9 rfl ?_
  refine x_iload_n h dX5_init_10 rfl ?_
  refine x_putiF h p_X5_13 hqn hqT rfl rfl (fun C T N q => by cases q; rfl) rfl rfl dX5_init_11 (fun J11 eJ11 => ?_)
  refine x_aload_n h dX5_init_14 rfl ?_
  refine x_iload_n h dX5_init_15 rfl ?_
  refine x_putiF h p_X5_16 hqn hqT rfl rfl (fun C T N q => by cases q; rfl) rfl rfl dX5_init_16 (fun J16 eJ16 => ?_)
  refine x_aload_n h dX5_init_19 rfl ?_
  refine x_iload h dX5_init_20 rfl ?_
  refine x_putiF h p_X5_19 hqn hqT rfl rfl (fun C T N q => by cases q; rfl) rfl rfl dX5_init_22 (fun J22 eJ22 => ?_)
  exact x_vret h dX5_init_25 rfl (xpE.to rfl (by subst_vars; rfl) rfl (by subst_vars; rfl))
theorem k4_init (l : Launch) (G : xG_T) (n : Nat) (Ty : Nat → xs_T) (F : xF_T) (I : xI_T) (L : xL_T) (q : Nat) (w b : Int32) (hqn : q < n) (hqT : Ty q = some (.inl 4)) : Cg l (1) 0 0 yX4_init cX4_init 3 none G idC [.ref (xb G + q), .int w, .int b] n Ty I L F (xpE none n Ty (up2 (up2 (up2 I q 0 100) q 1 w) q 2 b) L (F)) := by
  refine Cg.intro (cls := RX4) (pad := 0) (lv := [some (.ref (xb G + q)), some (.int w), some (.int b)]) rfl (by decide) (Nat.le_of_ble_eq_true rfl) rfl (fun Θ h => ?_)
  refine x_aload_n h dX4_init_0 rfl ?_
  refine x_objInit h q161 q162 q163 (by decide) (Nat.le_of_ble_eq_true rfl) dX4_init_1 ?_
  refine x_aload_n h dX4_init_4 rfl ?_
  refine x_bipush h dX4_init_5 (100) rfl ?_
  refine x_puti h p_X4_7 hqn hqT rfl rfl rfl dX4_init_7 (fun J7 eJ7 => ?_)
  refine x_aload_n h dX4_init_10 rfl ?_
  refine x_iload_n h dX4_init_11 rfl ?_
  refine x_puti h p_X4_13 hqn hqT rfl rfl rfl dX4_init_12 (fun J12 eJ12 => ?_)
  refine x_aload_n h dX4_init_15 rfl ?_
  refine x_iload_n h dX4_init_16 rfl ?_
  refine x_puti h p_X4_16 hqn hqT rfl rfl rfl dX4_init_17 (fun J17 eJ17 => ?_)
  exact x_vret h dX4_init_20 rfl (xpE.to rfl (by subst_vars; rfl) rfl (by subst_vars; rfl))
