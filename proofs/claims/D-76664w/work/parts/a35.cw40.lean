/-! WALKS OF THE COMPONENT: bodies made -/
theorem o_X15_3_15 : xfpO RX15 3 15 1 (tyX15 1) := ⟨_, _, _, tyX15, rfl, by decide, in_X15, q1118, rfl, tyX15_ok, by decide +kernel, tyX15_ok 1 (by decide), by decide +kernel⟩
theorem i_X15_9 : xcin RX15 9 yX14_init cX14_init 1 0 := ⟨_, lw_meth q1114, q128, q1112, q1113, rfl, by decide +kernel, by decide +kernel, by decide +kernel⟩
theorem o_X15_15_15 : xfpO RX15 15 15 0 (tyX15 0) := ⟨_, _, _, tyX15, rfl, by decide, in_X15, q1117, rfl, tyX15_ok, by decide +kernel, tyX15_ok 0 (by decide), by decide +kernel⟩
theorem o_X15_3_16 : xfpO RX15 3 16 1 (tyX16 1) := ⟨_, _, _, tyX16, rfl, by decide, in_X16, q1118, rfl, tyX16_ok, by decide +kernel, tyX16_ok 1 (by decide), by decide +kernel⟩
theorem o_X15_15_16 : xfpO RX15 15 16 0 (tyX16 0) := ⟨_, _, _, tyX16, rfl, by decide, in_X16, q1117, rfl, tyX16_ok, by decide +kernel, tyX16_ok 0 (by decide), by decide +kernel⟩
theorem o_X15_3_17 : xfpO RX15 3 17 1 (tyX17 1) := ⟨_, _, _, tyX17, rfl, by decide, in_X17, q1118, rfl, tyX17_ok, by decide +kernel, tyX17_ok 1 (by decide), by decide +kernel⟩
theorem o_X15_15_17 : xfpO RX15 15 17 0 (tyX17 0) := ⟨_, _, _, tyX17, rfl, by decide, in_X17, q1117, rfl, tyX17_ok, by decide +kernel, tyX17_ok 0 (by decide), by decide +kernel⟩
theorem o_X15_3_18 : xfpO RX15 3 18 1 (tyX18 1) := ⟨_, _, _, tyX18, rfl, by decide, in_X18, q1118, rfl, tyX18_ok, by decide +kernel, tyX18_ok 1 (by decide), by decide +kernel⟩
theorem o_X15_15_18 : xfpO RX15 15 18 0 (tyX18 0) := ⟨_, _, _, tyX18, rfl, by decide, in_X18, q1117, rfl, tyX18_ok, by decide +kernel, tyX18_ok 0 (by decide), by decide +kernel⟩
theorem o_X15_3_19 : xfpO RX15 3 19 1 (tyX19 1) := ⟨_, _, _, tyX19, rfl, by decide, in_X19, q1118, rfl, tyX19_ok, by decide +kernel, tyX19_ok 1 (by decide), by decide +kernel⟩
theorem o_X15_15_19 : xfpO RX15 15 19 0 (tyX19 0) := ⟨_, _, _, tyX19, rfl, by decide, in_X19, q1117, rfl, tyX19_ok, by decide +kernel, tyX19_ok 0 (by decide), by decide +kernel⟩
theorem o_X15_3_20 : xfpO RX15 3 20 1 (tyX20 1) := ⟨_, _, _, tyX20, rfl, by decide, in_X20, q1118, rfl, tyX20_ok, by decide +kernel, tyX20_ok 1 (by decide), by decide +kernel⟩
theorem o_X15_15_20 : xfpO RX15 15 20 0 (tyX20 0) := ⟨_, _, _, tyX20, rfl, by decide, in_X20, q1117, rfl, tyX20_ok, by decide +kernel, tyX20_ok 0 (by decide), by decide +kernel⟩
theorem o_X15_3_21 : xfpO RX15 3 21 1 (tyX21 1) := ⟨_, _, _, tyX21, rfl, by decide, in_X21, q1118, rfl, tyX21_ok, by decide +kernel, tyX21_ok 1 (by decide), by decide +kernel⟩
theorem o_X15_15_21 : xfpO RX15 15 21 0 (tyX21 0) := ⟨_, _, _, tyX21, rfl, by decide, in_X21, q1117, rfl, tyX21_ok, by decide +kernel, tyX21_ok 0 (by decide), by decide +kernel⟩
theorem o_X15_3_22 : xfpO RX15 3 22 1 (tyX22 1) := ⟨_, _, _, tyX22, rfl, by decide, in_X22, q1118, rfl, tyX22_ok, by decide +kernel, tyX22_ok 1 (by decide), by decide +kernel⟩
theorem o_X15_15_22 : xfpO RX15 15 22 0 (tyX22 0) := ⟨_, _, _, tyX22, rfl, by decide, in_X22, q1117, rfl, tyX22_ok, by decide +kernel, tyX22_ok 0 (by decide), by decide +kernel⟩
theorem o_X16_1_16 : xfpO RX16 1 16 2 (tyX16 2) := ⟨_, _, _, tyX16, rfl, by decide, in_X16, q1116, rfl, tyX16_ok, by decide +kernel, tyX16_ok 2 (by decide), by decide +kernel⟩
theorem i_X16_7 : xci RX16 7 yX15_init cX15_init 3 2 := ⟨lw_meth q1111, q129, q1109, q1110, rfl, by decide +kernel, by decide +kernel, by decide +kernel⟩
theorem o_X16_1_19 : xfpO RX16 1 19 2 (tyX19 2) := ⟨_, _, _, tyX19, rfl, by decide, in_X19, q1116, rfl, tyX19_ok, by decide +kernel, tyX19_ok 2 (by decide), by decide +kernel⟩
theorem o_X16_1_22 : xfpO RX16 1 22 2 (tyX22 2) := ⟨_, _, _, tyX22, rfl, by decide, in_X22, q1116, rfl, tyX22_ok, by decide +kernel, tyX22_ok 2 (by decide), by decide +kernel⟩
theorem o_X17_1_17 : xfpO RX17 1 17 2 (tyX17 2) := ⟨_, _, _, tyX17, rfl, by decide, in_X17, q1132, rfl, tyX17_ok, by decide +kernel, tyX17_ok 2 (by decide), by decide +kernel⟩
theorem i_X17_7 : xci RX17 7 yX15_init cX15_init 3 2 := ⟨lw_meth q1111, q129, q1131, q1110, rfl, by decide +kernel, by decide +kernel, by decide +kernel⟩
theorem o_X17_1_18 : xfpO RX17 1 18 2 (tyX18 2) := ⟨_, _, _, tyX18, rfl, by decide, in_X18, q1132, rfl, tyX18_ok, by decide +kernel, tyX18_ok 2 (by decide), by decide +kernel⟩
theorem o_X17_1_20 : xfpO RX17 1 20 2 (tyX20 2) := ⟨_, _, _, tyX20, rfl, by decide, in_X20, q1132, rfl, tyX20_ok, by decide +kernel, tyX20_ok 2 (by decide), by decide +kernel⟩
theorem o_X21_1_21 : xfpO RX21 1 21 2 (tyX21 2) := ⟨_, _, _, tyX21, rfl, by decide, in_X21, q1184, rfl, tyX21_ok, by decide +kernel, tyX21_ok 2 (by decide), by decide +kernel⟩
theorem i_X21_7 : xci RX21 7 yX15_init cX15_init 3 2 := ⟨lw_meth q1111, q129, q1183, q1110, rfl, by decide +kernel, by decide +kernel, by decide +kernel⟩
theorem o_X18_1_18 : xfpO RX18 1 18 3 (tyX18 3) := ⟨_, _, _, tyX18, rfl, by decide, in_X18, q1144, rfl, tyX18_ok, by decide +kernel, tyX18_ok 3 (by decide), by decide +kernel⟩
theorem i_X18_7 : xci RX18 7 yX17_init cX17_init 3 2 := ⟨lw_meth q1130, q131, q1143, q1129, rfl, by decide +kernel, by decide +kernel, by decide +kernel⟩
theorem o_X18_1_20 : xfpO RX18 1 20 3 (tyX20 3) := ⟨_, _, _, tyX20, rfl, by decide, in_X20, q1144, rfl, tyX20_ok, by decide +kernel, tyX20_ok 3 (by decide), by decide +kernel⟩
theorem o_X19_1_19 : xfpO RX19 1 19 3 (tyX19 3) := ⟨_, _, _, tyX19, rfl, by decide, in_X19, q1157, rfl, tyX19_ok, by decide +kernel, tyX19_ok 3 (by decide), by decide +kernel⟩
theorem i_X19_7 : xci RX19 7 yX16_init cX16_init 3 2 := ⟨lw_meth q1108, q130, q1156, q1107, rfl, by decide +kernel, by decide +kernel, by decide +kernel⟩
theorem o_X19_1_22 : xfpO RX19 1 22 3 (tyX22 3) := ⟨_, _, _, tyX22, rfl, by decide, in_X22, q1157, rfl, tyX22_ok, by decide +kernel, tyX22_ok 3 (by decide), by decide +kernel⟩
theorem o_X20_1_20 : xfpO RX20 1 20 4 (tyX20 4) := ⟨_, _, _, tyX20, rfl, by decide, in_X20, q1170, rfl, tyX20_ok, by decide +kernel, tyX20_ok 4 (by decide), by decide +kernel⟩
theorem i_X20_7 : xci RX20 7 yX18_init cX18_init 3 2 := ⟨lw_meth q1142, q132, q1169, q1141, rfl, by decide +kernel, by decide +kernel, by decide +kernel⟩
theorem o_X22_1_22 : xfpO RX22 1 22 4 (tyX22 4) := ⟨_, _, _, tyX22, rfl, by decide, in_X22, q1196, rfl, tyX22_ok, by decide +kernel, tyX22_ok 4 (by decide), by decide +kernel⟩
theorem i_X22_7 : xci RX22 7 yX19_init cX19_init 3 2 := ⟨lw_meth q1155, q133, q1195, q1154, rfl, by decide +kernel, by decide +kernel, by decide +kernel⟩
theorem n_X0_199 : xnw RX0 199 15 2 := ⟨_, _, _, tyX15, rfl, in_X15, tyX15_ok, q702, q1204, q129, rfl, fun k hk => match k, hk with | 0, _ => rfl | 1, _ => rfl | j + 2, hj => absurd hj (by omega)⟩
theorem i_X0_454 : xci RX0 454 yX15_init cX15_init 3 2 := ⟨lw_meth q1111, q129, q1205, q1110, rfl, by decide +kernel, by decide +kernel, by decide +kernel⟩
theorem n_X0_431 : xnw RX0 431 16 3 := ⟨_, _, _, tyX16, rfl, in_X16, tyX16_ok, q1104, q1105, q130, rfl, fun k hk => match k, hk with | 0, _ => rfl | 1, _ => rfl | 2, _ => rfl | j + 3, hj => absurd hj (by omega)⟩
theorem i_X0_433 : xci RX0 433 yX16_init cX16_init 3 2 := ⟨lw_meth q1108, q130, q1106, q1107, rfl, by decide +kernel, by decide +kernel, by decide +kernel⟩
theorem n_X0_436 : xnw RX0 436 17 3 := ⟨_, _, _, tyX17, rfl, in_X17, tyX17_ok, q1126, q1127, q131, rfl, fun k hk => match k, hk with | 0, _ => rfl | 1, _ => rfl | 2, _ => rfl | j + 3, hj => absurd hj (by omega)⟩
theorem i_X0_438 : xci RX0 438 yX17_init cX17_init 3 2 := ⟨lw_meth q1130, q131, q1128, q1129, rfl, by decide +kernel, by decide +kernel, by decide +kernel⟩
theorem n_X0_439 : xnw RX0 439 18 4 := ⟨_, _, _, tyX18, rfl, in_X18, tyX18_ok, q1138, q1139, q132, rfl, fun k hk => match k, hk with | 0, _ => rfl | 1, _ => rfl | 2, _ => rfl | 3, _ => rfl | j + 4, hj => absurd hj (by omega)⟩
theorem i_X0_441 : xci RX0 441 yX18_init cX18_init 3 2 := ⟨lw_meth q1142, q132, q1140, q1141, rfl, by decide +kernel, by decide +kernel, by decide +kernel⟩
theorem n_X0_442 : xnw RX0 442 19 4 := ⟨_, _, _, tyX19, rfl, in_X19, tyX19_ok, q1151, q1152, q133, rfl, fun k hk => match k, hk with | 0, _ => rfl | 1, _ => rfl | 2, _ => rfl | 3, _ => rfl | j + 4, hj => absurd hj (by omega)⟩
theorem i_X0_444 : xci RX0 444 yX19_init cX19_init 3 2 := ⟨lw_meth q1155, q133, q1153, q1154, rfl, by decide +kernel, by decide +kernel, by decide +kernel⟩
theorem n_X0_445 : xnw RX0 445 20 5 := ⟨_, _, _, tyX20, rfl, in_X20, tyX20_ok, q1164, q1165, q134, rfl, fun k hk => match k, hk with | 0, _ => rfl | 1, _ => rfl | 2, _ => rfl | 3, _ => rfl | 4, _ => rfl | j + 5, hj => absurd hj (by omega)⟩
theorem i_X0_447 : xci RX0 447 yX20_init cX20_init 3 2 := ⟨lw_meth q1168, q134, q1166, q1167, rfl, by decide +kernel, by decide +kernel, by decide +kernel⟩
theorem n_X0_448 : xnw RX0 448 21 3 := ⟨_, _, _, tyX21, rfl, in_X21, tyX21_ok, q1178, q1179, q135, rfl, fun k hk => match k, hk with | 0, _ => rfl | 1, _ => rfl | 2, _ => rfl | j + 3, hj => absurd hj (by omega)⟩
theorem i_X0_450 : xci RX0 450 yX21_init cX21_init 3 2 := ⟨lw_meth q1182, q135, q1180, q1181, rfl, by decide +kernel, by decide +kernel, by decide +kernel⟩
theorem n_X0_451 : xnw RX0 451 22 5 := ⟨_, _, _, tyX22, rfl, in_X22, tyX22_ok, q1190, q1191, q136, rfl, fun k hk => match k, hk with | 0, _ => rfl | 1, _ => rfl | 2, _ => rfl | 3, _ => rfl | 4, _ => rfl | j + 5, hj => absurd hj (by omega)⟩
theorem i_X0_453 : xci RX0 453 yX22_init cX22_init 3 2 := ⟨lw_meth q1194, q136, q1192, q1193, rfl, by decide +kernel, by decide +kernel, by decide +kernel⟩
theorem k15_init_15 (l : Launch) (G : xG_T) (n : Nat) (Ty : Nat → xs_T) (F : xF_T) (I : xI_T) (L : xL_T) (q : Nat) (v : Int32) (hqn : q < n) (hqT : Ty q = some (.inl 15)) : Cg l (2) 0 0 yX15_init cX15_init 3 none G idC [.ref (xb G + q), .ref (xb G + 0), .int v] n Ty I L F (xpE none n Ty (up2 I q 0 v) L (up2 F q 1 (some 0))) := by
  refine Cg.intro (cls := RX15) (pad := 0) (lv := [some (.ref (xb G + q)), some (.ref (xb G + 0)), some (.int v)]) rfl (by decide) (Nat.le_of_ble_eq_true rfl) rfl (fun Θ h => ?_)
  refine x_aload_n h dX15_init_0 rfl ?_
  refine x_aload_n h dX15_init_1 rfl ?_
  refine x_putrFO h o_X15_3_15 hqn hqT (by decide) rfl (fun C T N q => by cases q; rfl) rfl rfl dX15_init_2 (fun Q2 eQ2 => ?_)
  refine x_aload_n h dX15_init_5 rfl ?_
  refine x_callINEv h (As := []) (k14_init l G n Ty Q2 I L q) i_X15_9 dX15_init_6 ⟨by decide, by decide⟩ ⟨by decide, by decide⟩ rfl (Nat.le_of_ble_eq_true rfl) ?_
  refine x_aload_n h dX15_init_9 rfl ?_
  refine x_iload_n h dX15_init_10 rfl ?_
  refine x_putiFO h o_X15_15_15 hqn hqT rfl rfl (fun C T N q => by cases q; rfl) rfl rfl dX15_init_11 (fun J11 eJ11 => ?_)
  exact x_vret h dX15_init_14 rfl (xpE.to rfl (by subst_vars; rfl) rfl (by subst_vars; rfl))
theorem k15_init_16 (l : Launch) (G : xG_T) (n : Nat) (Ty : Nat → xs_T) (F : xF_T) (I : xI_T) (L : xL_T) (q : Nat) (v : Int32) (hqn : q < n) (hqT : Ty q = some (.inl 16)) : Cg l (2) 0 0 yX15_init cX15_init 3 none G idC [.ref (xb G + q), .ref (xb G + 0), .int v] n Ty I L F (xpE none n Ty (up2 I q 0 v) L (up2 F q 1 (some 0))) := by
  refine Cg.intro (cls := RX15) (pad := 0) (lv := [some (.ref (xb G + q)), some (.ref (xb G + 0)), some (.int v)]) rfl (by decide) (Nat.le_of_ble_eq_true rfl) rfl (fun Θ h => ?_)
  refine x_aload_n h dX15_init_0 rfl ?_
  refine x_aload_n h dX15_init_1 rfl ?_
  refine x_putrFO h o_X15_3_16 hqn hqT (by decide) rfl (fun C T N q => by cases q; rfl) rfl rfl dX15_init_2 (fun Q2 eQ2 => ?_)
  refine x_aload_n h dX15_init_5 rfl ?_
  refine x_callINEv h (As := []) (k14_init l G n Ty Q2 I L q) i_X15_9 dX15_init_6 ⟨by decide, by decide⟩ ⟨by decide, by decide⟩ rfl (Nat.le_of_ble_eq_true rfl) ?_
  refine x_aload_n h dX15_init_9 rfl ?_
  refine x_iload_n h dX15_init_10 rfl ?_
  refine x_putiFO h o_X15_15_16 hqn hqT rfl rfl (fun C T N q => by cases q; rfl) rfl rfl dX15_init_11 (fun J11 eJ11 => ?_)
  exact x_vret h dX15_init_14 rfl (xpE.to rfl (by subst_vars; rfl) rfl (by subst_vars; rfl))
theorem k15_init_17 (l : Launch) (G : xG_T) (n : Nat) (Ty : Nat → xs_T) (F : xF_T) (I : xI_T) (L : xL_T) (q : Nat) (v : Int32) (hqn : q < n) (hqT : Ty q = some (.inl 17)) : Cg l (2) 0 0 yX15_init cX15_init 3 none G idC [.ref (xb G + q), .ref (xb G + 0), .int v] n Ty I L F (xpE none n Ty (up2 I q 0 v) L (up2 F q 1 (some 0))) := by
  refine Cg.intro (cls := RX15) (pad := 0) (lv := [some (.ref (xb G + q)), some (.ref (xb G + 0)), some (.int v)]) rfl (by decide) (Nat.le_of_ble_eq_true rfl) rfl (fun Θ h => ?_)
  refine x_aload_n h dX15_init_0 rfl ?_
  refine x_aload_n h dX15_init_1 rfl ?_
  refine x_putrFO h o_X15_3_17 hqn hqT (by decide) rfl (fun C T N q => by cases q; rfl) rfl rfl dX15_init_2 (fun Q2 eQ2 => ?_)
  refine x_aload_n h dX15_init_5 rfl ?_
  refine x_callINEv h (As := []) (k14_init l G n Ty Q2 I L q) i_X15_9 dX15_init_6 ⟨by decide, by decide⟩ ⟨by decide, by decide⟩ rfl (Nat.le_of_ble_eq_true rfl) ?_
  refine x_aload_n h dX15_init_9 rfl ?_
  refine x_iload_n h dX15_init_10 rfl ?_
  refine x_putiFO h o_X15_15_17 hqn hqT rfl rfl (fun C T N q => by cases q; rfl) rfl rfl dX15_init_11 (fun J11 eJ11 => ?_)
  exact x_vret h dX15_init_14 rfl (xpE.to rfl (by subst_vars; rfl) rfl (by subst_vars; rfl))
theorem k15_init_18 (l : Launch) (G : xG_T) (n : Nat) (Ty : Nat → xs_T) (F : xF_T) (I : xI_T) (L : xL_T) (q : Nat) (v : Int32) (hqn : q < n) (hqT : Ty q = some (.inl 18)) : Cg l (2) 0 0 yX15_init cX15_init 3 none G idC [.ref (xb G + q), .ref (xb G + 0), .int v] n Ty I L F (xpE none n Ty (up2 I q 0 v) L (up2 F q 1 (some 0))) := by
  refine Cg.intro (cls := RX15) (pad := 0) (lv := [some (.ref (xb G + q)), some (.ref (xb G + 0)), some (.int v)]) rfl (by decide) (Nat.le_of_ble_eq_true rfl) rfl (fun Θ h => ?_)
  refine x_aload_n h dX15_init_0 rfl ?_
  refine x_aload_n h dX15_init_1 rfl ?_
  refine x_putrFO h o_X15_3_18 hqn hqT (by decide) rfl (fun C T N q => by cases q; rfl) rfl rfl dX15_init_2 (fun Q2 eQ2 => ?_)
  refine x_aload_n h dX15_init_5 rfl ?_
  refine x_callINEv h (As := []) (k14_init l G n Ty Q2 I L q) i_X15_9 dX15_init_6 ⟨by decide, by decide⟩ ⟨by decide, by decide⟩ rfl (Nat.le_of_ble_eq_true rfl) ?_
  refine x_aload_n h dX15_init_9 rfl ?_
  refine x_iload_n h dX15_init_10 rfl ?_
  refine x_putiFO h o_X15_15_18 hqn hqT rfl rfl (fun C T N q => by cases q; rfl) rfl rfl dX15_init_11 (fun J11 eJ11 => ?_)
  exact x_vret h dX15_init_14 rfl (xpE.to rfl (by subst_vars; rfl) rfl (by subst_vars; rfl))
theorem k15_init_19 (l : Launch) (G : xG_T) (n : Nat) (Ty : Nat → xs_T) (F : xF_T) (I : xI_T) (L : xL_T) (q : Nat) (v : Int32) (hqn : q < n) (hqT : Ty q = some (.inl 19)) : Cg l (2) 0 0 yX15_init cX15_init 3 none G idC [.ref (xb G + q), .ref (xb G + 0), .int v] n Ty I L F (xpE none n Ty (up2 I q 0 v) L (up2 F q 1 (some 0))) := by
  refine Cg.intro (cls := RX15) (pad := 0) (lv := [some (.ref (xb G + q)), some (.ref (xb G + 0)), some (.int v)]) rfl (by decide) (Nat.le_of_ble_eq_true rfl) rfl (fun Θ h => ?_)
  refine x_aload_n h dX15_init_0 rfl ?_
  refine x_aload_n h dX15_init_1 rfl ?_
  refine x_putrFO h o_X15_3_19 hqn hqT (by decide) rfl (fun C T N q => by cases q; rfl) rfl rfl dX15_init_2 (fun Q2 eQ2 => ?_)
  refine x_aload_n h dX15_init_5 rfl ?_
  refine x_callINEv h (As := []) (k14_init l G n Ty Q2 I L q) i_X15_9 dX15_init_6 ⟨by decide, by decide⟩ ⟨by decide, by decide⟩ rfl (Nat.le_of_ble_eq_true rfl) ?_
  refine x_aload_n h dX15_init_9 rfl ?_
  refine x_iload_n h dX15_init_10 rfl ?_
  refine x_putiFO h o_X15_15_19 hqn hqT rfl rfl (fun C T N q => by cases q; rfl) rfl rfl dX15_init_11 (fun J11 eJ11 => ?_)
  exact x_vret h dX15_init_14 rfl (xpE.to rfl (by subst_vars; rfl) rfl (by subst_vars; rfl))
theorem k15_init_20 (l : Launch) (G : xG_T) (n : Nat) (Ty : Nat → xs_T) (F : xF_T) (I : xI_T) (L : xL_T) (q : Nat) (v : Int32) (hqn : q < n) (hqT : Ty q = some (.inl 20)) : Cg l (2) 0 0 yX15_init cX15_init 3 none G idC [.ref (xb G + q), .ref (xb G + 0), .int v] n Ty I L F (xpE none n Ty (up2 I q 0 v) L (up2 F q 1 (some 0))) := by
  refine Cg.intro (cls := RX15) (pad := 0) (lv := [some (.ref (xb G + q)), some (.ref (xb G + 0)), some (.int v)]) rfl (by decide) (Nat.le_of_ble_eq_true rfl) rfl (fun Θ h => ?_)
  refine x_aload_n h dX15_init_0 rfl ?_
  refine x_aload_n h dX15_init_1 rfl ?_
  refine x_putrFO h o_X15_3_20 hqn hqT (by decide) rfl (fun C T N q => by cases q; rfl) rfl rfl dX15_init_2 (fun Q2 eQ2 => ?_)
  refine x_aload_n h dX15_init_5 rfl ?_
  refine x_callINEv h (As := []) (k14_init l G n Ty Q2 I L q) i_X15_9 dX15_init_6 ⟨by decide, by decide⟩ ⟨by decide, by decide⟩ rfl (Nat.le_of_ble_eq_true rfl) ?_
  refine x_aload_n h dX15_init_9 rfl ?_
  refine x_iload_n h dX15_init_10 rfl ?_
  refine x_putiFO h o_X15_15_20 hqn hqT rfl rfl (fun C T N q => by cases q; rfl) rfl rfl dX15_init_11 (fun J11 eJ11 => ?_)
  exact x_vret h dX15_init_14 rfl (xpE.to rfl (by subst_vars; rfl) rfl (by subst_vars; rfl))
theorem k15_init_21 (l : Launch) (G : xG_T) (n : Nat) (Ty : Nat → xs_T) (F : xF_T) (I : xI_T) (L : xL_T) (q : Nat) (v : Int32) (hqn : q < n) (hqT : Ty q = some (.inl 21)) : Cg l (2) 0 0 yX15_init cX15_init 3 none G idC [.ref (xb G + q), .ref (xb G + 0), .int v] n Ty I L F (xpE none n Ty (up2 I q 0 v) L (up2 F q 1 (some 0))) := by
  refine Cg.intro (cls := RX15) (pad := 0) (lv := [some (.ref (xb G + q)), some (.ref (xb G + 0)), some (.int v)]) rfl (by decide) (Nat.le_of_ble_eq_true rfl) rfl (fun Θ h => ?_)
  refine x_aload_n h dX15_init_0 rfl ?_
  refine x_aload_n h dX15_init_1 rfl ?_
  refine x_putrFO h o_X15_3_21 hqn hqT (by decide) rfl (fun C T N q => by cases q; rfl) rfl rfl dX15_init_2 (fun Q2 eQ2 => ?_)
  refine x_aload_n h dX15_init_5 rfl ?_
  refine x_callINEv h (As := []) (k14_init l G n Ty Q2 I L q) i_X15_9 dX15_init_6 ⟨by decide, by decide⟩ ⟨by decide, by decide⟩ rfl (Nat.le_of_ble_eq_true rfl) ?_
  refine x_aload_n h dX15_init_9 rfl ?_
  refine x_iload_n h dX15_init_10 rfl ?_
  refine x_putiFO h o_X15_15_21 hqn hqT rfl rfl (fun C T N q => by cases q; rfl) rfl rfl dX15_init_11 (fun J11 eJ11 => ?_)
  exact x_vret h dX15_init_14 rfl (xpE.to rfl (by subst_vars; rfl) rfl (by subst_vars; rfl))
theorem k15_init_22 (l : Launch) (G : xG_T) (n : Nat) (Ty : Nat → xs_T) (F : xF_T) (I : xI_T) (L : xL_T) (q : Nat) (v : Int32) (hqn : q < n) (hqT : Ty q = some (.inl 22)) : Cg l (2) 0 0 yX15_init cX15_init 3 none G idC [.ref (xb G + q), .ref (xb G + 0), .int v] n Ty I L F (xpE none n Ty (up2 I q 0 v) L (up2 F q 1 (some 0))) := by
  refine Cg.intro (cls := RX15) (pad := 0) (lv := [some (.ref (xb G + q)), some (.ref (xb G + 0)), some (.int v)]) rfl (by decide) (Nat.le_of_ble_eq_true rfl) rfl (fun Θ h => ?_)
  refine x_aload_n h dX15_init_0 rfl ?_
  refine x_aload_n h dX15_init_1 rfl ?_
  refine x_putrFO h o_X15_3_22 hqn hqT (by decide) rfl (fun C T N q => by cases q; rfl) rfl rfl dX15_init_2 (fun Q2 eQ2 => ?_)
  refine x_aload_n h dX15_init_5 rfl ?_
  refine x_callINEv h (As := []) (k14_init l G n Ty Q2 I L q) i_X15_9 dX15_init_6 ⟨by decide, by decide⟩ ⟨by decide, by decide⟩ rfl (Nat.le_of_ble_eq_true rfl) ?_
  refine x_aload_n h dX15_init_9 rfl ?_
  refine x_iload_n h dX15_init_10 rfl ?_
  refine x_putiFO h o_X15_15_22 hqn hqT rfl rfl (fun C T N q => by cases q; rfl) rfl rfl dX15_init_11 (fun J11 eJ11 => ?_)
  exact x_vret h dX15_init_14 rfl (xpE.to rfl (by subst_vars; rfl) rfl (by subst_vars; rfl))
theorem k16_init_16 (l : Launch) (G : xG_T) (n : Nat) (Ty : Nat → xs_T) (F : xF_T) (I : xI_T) (L : xL_T) (q : Nat) (v : Int32) (hqn : q < n) (hqT : Ty q = some (.inl 16)) : Cg l (3) 0 0 yX16_init cX16_init 3 none G idC [.ref (xb G + q), .ref (xb G + 0), .int v] n Ty I L F (xpE none n Ty (up2 I q 0 v) L (up2 (up2 F q 2 (some 0)) q 1 (some 0))) := by
  refine Cg.intro (cls := RX16) (pad := 0) (lv := [some (.ref (xb G + q)), some (.ref (xb G + 0)), some (.int v)]) rfl (by decide) (Nat.le_of_ble_eq_true rfl) rfl (fun Θ h => ?_)
  refine x_aload_n h dX16_init_0 rfl ?_
  refine x_aload_n h dX16_init_1 rfl ?_
  refine x_putrFO h o_X16_1_16 hqn hqT (by decide) rfl (fun C T N q => by cases q; rfl) rfl rfl dX16_init_2 (fun Q2 eQ2 => ?_)
  refine x_aload_n h dX16_init_5 rfl ?_
  refine x_aload_n h dX16_init_6 rfl ?_
  refine x_iload_n h dX16_init_7 rfl ?_
  refine x_callIEv h (As := [.ref _, .int _]) (k15_init_16 l G n Ty Q2 I L q v hqn hqT) i_X16_7 dX16_init_8 ⟨by decide, by decide⟩ ⟨by decide, by decide⟩ rfl (Nat.le_of_ble_eq_true rfl) ?_
  refine x_nmI (fun J8 eJ8 => ?_)
  refine x_nmF (fun Q8 eQ8 => ?_)
  exact x_vret h dX16_init_11 rfl (xpE.to rfl (by subst_vars; rfl) rfl (by subst_vars; rfl))
theorem k16_init_19 (l : Launch) (G : xG_T) (n : Nat) (Ty : Nat → xs_T) (F : xF_T) (I : xI_T) (L : xL_T) (q : Nat) (v : Int32) (hqn : q < n) (hqT : Ty q = some (.inl 19)) : Cg l (3) 0 0 yX16_init cX16_init 3 none G idC [.ref (xb G + q), .ref (xb G + 0), .int v] n Ty I L F (xpE none n Ty (up2 I q 0 v) L (up2 (up2 F q 2 (some 0)) q 1 (some 0))) := by
  refine Cg.intro (cls := RX16) (pad := 0) (lv := [some (.ref (xb G + q)), some (.ref (xb G + 0)), some (.int v)]) rfl (by decide) (Nat.le_of_ble_eq_true rfl) rfl (fun Θ h => ?_)
  refine x_aload_n h dX16_init_0 rfl ?_
  refine x_aload_n h dX16_init_1 rfl ?_
  refine x_putrFO h o_X16_1_19 hqn hqT (by decide) rfl (fun C T N q => by cases q; rfl) rfl rfl dX16_init_2 (fun Q2 eQ2 => ?_)
  refine x_aload_n h dX16_init_5 rfl ?_
  refine x_aload_n h dX16_init_6 rfl ?_
  refine x_iload_n h dX16_init_7 rfl ?_
  refine x_callIEv h (As := [.ref _, .int _]) (k15_init_19 l G n Ty Q2 I L q v hqn hqT) i_X16_7 dX16_init_8 ⟨by decide, by decide⟩ ⟨by decide, by decide⟩ rfl (Nat.le_of_ble_eq_true rfl) ?_
  refine x_nmI (fun J8 eJ8 => ?_)
  refine x_nmF (fun Q8 eQ8 => ?_)
  exact x_vret h dX16_init_11 rfl (xpE.to rfl (by subst_vars; rfl) rfl (by subst_vars; rfl))
theorem k16_init_22 (l : Launch) (G : xG_T) (n : Nat) (Ty : Nat → xs_T) (F : xF_T) (I : xI_T) (L : xL_T) (q : Nat) (v : Int32) (hqn : q < n) (hqT : Ty q = some (.inl 22)) : Cg l (3) 0 0 yX16_init cX16_init 3 none G idC [.ref (xb G + q), .ref (xb G + 0), .int v] n Ty I L F (xpE none n Ty (up2 I q 0 v) L (up2 (up2 F q 2 (some 0)) q 1 (some 0))) := by
  refine Cg.intro (cls := RX16) (pad := 0) (lv := [some (.ref (xb G + q)), some (.ref (xb G + 0)), some (.int v)]) rfl (by decide) (Nat.le_of_ble_eq_true rfl) rfl (fun Θ h => ?_)
  refine x_aload_n h dX16_init_0 rfl ?_
  refine x_aload_n h dX16_init_1 rfl ?_
  refine x_putrFO h o_X16_1_22 hqn hqT (by decide) rfl (fun C T N q => by cases q; rfl) rfl rfl dX16_init_2 (fun Q2 eQ2 => ?_)
  refine x_aload_n h dX16_init_5 rfl ?_
  refine x_aload_n h dX16_init_6 rfl ?_
  refine x_iload_n h dX16_init_7 rfl ?_
  refine x_callIEv h (As := [.ref _, .int _]) (k15_init_22 l G n Ty Q2 I L q v hqn hqT) i_X16_7 dX16_init_8 ⟨by decide, by decide⟩ ⟨by decide, by decide⟩ rfl (Nat.le_of_ble_eq_true rfl) ?_
  refine x_nmI (fun J8 eJ8 => ?_)
  refine x_nmF (fun Q8 eQ8 => ?_)
  exact x_vret h dX16_init_11 rfl (xpE.to rfl (by subst_vars; rfl) rfl (by subst_vars; rfl))
theorem k17_init_17 (l : Launch) (G : xG_T) (n : Nat) (Ty : Nat → xs_T) (F : xF_T) (I : xI_T) (L : xL_T) (q : Nat) (v : Int32) (hqn : q < n) (hqT : Ty q = some (.inl 17)) : Cg l (3) 0 0 yX17_init cX17_init 3 none G idC [.ref (xb G + q), .ref (xb G + 0), .int v] n Ty I L F (xpE none n Ty (up2 I q 0 v) L (up2 (up2 F q 2 (some 0)) q 1 (some 0))) := by
  refine Cg.intro (cls := RX17) (pad := 0) (lv := [some (.ref (xb G + q)), some (.ref (xb G + 0)), some (.int v)]) rfl (by decide) (Nat.le_of_ble_eq_true rfl) rfl (fun Θ h => ?_)
  refine x_aload_n h dX17_init_0 rfl ?_
  refine x_aload_n h dX17_init_1 rfl ?_
  refine x_putrFO h o_X17_1_17 hqn hqT (by decide) rfl (fun C T N q => by cases q; rfl) rfl rfl dX17_init_2 (fun Q2 eQ2 => ?_)
  refine x_aload_n h dX17_init_5 rfl ?_
  refine x_aload_n h dX17_init_6 rfl ?_
  refine x_iload_n h dX17_init_7 rfl ?_
  refine x_callIEv h (As := [.ref _, .int _]) (k15_init_17 l G n Ty Q2 I L q v hqn hqT) i_X17_7 dX17_init_8 ⟨by decide, by decide⟩ ⟨by decide, by decide⟩ rfl (Nat.le_of_ble_eq_true rfl) ?_
  refine x_nmI (fun J8 eJ8 => ?_)
  refine x_nmF (fun Q8 eQ8 => ?_)
  exact x_vret h dX17_init_11 rfl (xpE.to rfl (by subst_vars; rfl) rfl (by subst_vars; rfl))
theorem k17_init_18 (l : Launch) (G : xG_T) (n : Nat) (Ty : Nat → xs_T) (F : xF_T) (I : xI_T) (L : xL_T) (q : Nat) (v : Int32) (hqn : q < n) (hqT : Ty q = some (.inl 18)) : Cg l (3) 0 0 yX17_init cX17_init 3 none G idC [.ref (xb G + q), .ref (xb G + 0), .int v] n Ty I L F (xpE none n Ty (up2 I q 0 v) L (up2 (up2 F q 2 (some 0)) q 1 (some 0))) := by
  refine Cg.intro (cls := RX17) (pad := 0) (lv := [some (.ref (xb G + q)), some (.ref (xb G + 0)), some (.int v)]) rfl (by decide) (Nat.le_of_ble_eq_true rfl) rfl (fun Θ h => ?_)
  refine x_aload_n h dX17_init_0 rfl ?_
  refine x_aload_n h dX17_init_1 rfl ?_
  refine x_putrFO h o_X17_1_18 hqn hqT (by decide) rfl (fun C T N q => by cases q; rfl) rfl rfl dX17_init_2 (fun Q2 eQ2 => ?_)
  refine x_aload_n h dX17_init_5 rfl ?_
  refine x_aload_n h dX17_init_6 rfl ?_
  refine x_iload_n h dX17_init_7 rfl ?_
  refine x_callIEv h (As := [.ref _, .int _]) (k15_init_18 l G n Ty Q2 I L q v hqn hqT) i_X17_7 dX17_init_8 ⟨by decide, by decide⟩ ⟨by decide, by decide⟩ rfl (Nat.le_of_ble_eq_true rfl) ?_
  refine x_nmI (fun J8 eJ8 => ?_)
  refine x_nmF (fun Q8 eQ8 => ?_)
  exact x_vret h dX17_init_11 rfl (xpE.to rfl (by subst_vars; rfl) rfl (by subst_vars; rfl))
theorem k17_init_20 (l : Launch) (G : xG_T) (n : Nat) (Ty : Nat → xs_T) (F : xF_T) (I : xI_T) (L : xL_T) (q : Nat) (v : Int32) (hqn : q < n) (hqT : Ty q = some (.inl 20)) : Cg l (3) 0 0 yX17_init cX17_init 3 none G idC [.ref (xb G + q), .ref (xb G + 0), .int v] n Ty I L F (xpE none n Ty (up2 I q 0 v) L (up2 (up2 F q 2 (some 0)) q 1 (some 0))) := by
  refine Cg.intro (cls := RX17) (pad := 0) (lv := [some (.ref (xb G + q)), some (.ref (xb G + 0)), some (.int v)]) rfl (by decide) (Nat.le_of_ble_eq_true rfl) rfl (fun Θ h => ?_)
  refine x_aload_n h dX17_init_0 rfl ?_
  refine x_aload_n h dX17_init_1 rfl ?_
  refine x_putrFO h o_X17_1_20 hqn hqT (by decide) rfl (fun C T N q => by cases q; rfl) rfl rfl dX17_init_2 (fun Q2 eQ2 => ?_)
  refine x_aload_n h dX17_init_5 rfl ?_
  refine x_aload_n h dX17_init_6 rfl ?_
  refine x_iload_n h dX17_init_7 rfl ?_
  refine x_callIEv h (As := [.ref _, .int _]) (k15_init_20 l G n Ty Q2 I L q v hqn hqT) i_X17_7 dX17_init_8 ⟨by decide, by decide⟩ ⟨by decide, by decide⟩ rfl (Nat.le_of_ble_eq_true rfl) ?_
  refine x_nmI (fun J8 eJ8 => ?_)
  refine x_nmF (fun Q8 eQ8 => ?_)
  exact x_vret h dX17_init_11 rfl (xpE.to rfl (by subst_vars; rfl) rfl (by subst_vars; rfl))
theorem k21_init_21 (l : Launch) (G : xG_T) (n : Nat) (Ty : Nat → xs_T) (F : xF_T) (I : xI_T) (L : xL_T) (q : Nat) (v : Int32) (hqn : q < n) (hqT : Ty q = some (.inl 21)) : Cg l (3) 0 0 yX21_init cX21_init 3 none G idC [.ref (xb G + q), .ref (xb G + 0), .int v] n Ty I L F (xpE none n Ty (up2 I q 0 v) L (up2 (up2 F q 2 (some 0)) q 1 (some 0))) := by
  refine Cg.intro (cls := RX21) (pad := 0) (lv := [some (.ref (xb G + q)), some (.ref (xb G + 0)), some (.int v)]) rfl (by decide) (Nat.le_of_ble_eq_true rfl) rfl (fun Θ h => ?_)
  refine x_aload_n h dX21_init_0 rfl ?_
  refine x_aload_n h dX21_init_1 rfl ?_
  refine x_putrFO h o_X21_1_21 hqn hqT (by decide) rfl (fun C T N q => by cases q; rfl) rfl rfl dX21_init_2 (fun Q2 eQ2 => ?_)
  refine x_aload_n h dX21_init_5 rfl ?_
  refine x_aload_n h dX21_init_6 rfl ?_
  refine x_iload_n h dX21_init_7 rfl ?_
  refine x_callIEv h (As := [.ref _, .int _]) (k15_init_21 l G n Ty Q2 I L q v hqn hqT) i_X21_7 dX21_init_8 ⟨by decide, by decide⟩ ⟨by decide, by decide⟩ rfl (Nat.le_of_ble_eq_true rfl) ?_
  refine x_nmI (fun J8 eJ8 => ?_)
  refine x_nmF (fun Q8 eQ8 => ?_)
  exact x_vret h dX21_init_11 rfl (xpE.to rfl (by subst_vars; rfl) rfl (by subst_vars; rfl))
theorem k18_init_18 (l : Launch) (G : xG_T) (n : Nat) (Ty : Nat → xs_T) (F : xF_T) (I : xI_T) (L : xL_T) (q : Nat) (v : Int32) (hqn : q < n) (hqT : Ty q = some (.inl 18)) : Cg l (4) 0 0 yX18_init cX18_init 3 none G idC [.ref (xb G + q), .ref (xb G + 0), .int v] n Ty I L F (xpE none n Ty (up2 I q 0 v) L (up2 (up2 (up2 F q 3 (some 0)) q 2 (some 0)) q 1 (some 0))) := by
  refine Cg.intro (cls := RX18) (pad := 0) (lv := [some (.ref (xb G + q)), some (.ref (xb G + 0)), some (.int v)]) rfl (by decide) (Nat.le_of_ble_eq_true rfl) rfl (fun Θ h => ?_)
  refine x_aload_n h dX18_init_0 rfl ?_
  refine x_aload_n h dX18_init_1 rfl ?_
  refine x_putrFO h o_X18_1_18 hqn hqT (by decide) rfl (fun C T N q => by cases q; rfl) rfl rfl dX18_init_2 (fun Q2 eQ2 => ?_)
  refine x_aload_n h dX18_init_5 rfl ?_
  refine x_aload_n h dX18_init_6 rfl ?_
  refine x_iload_n h dX18_init_7 rfl ?_
  refine x_callIEv h (As := [.ref _, .int _]) (k17_init_18 l G n Ty Q2 I L q v hqn hqT) i_X18_7 dX18_init_8 ⟨by decide, by decide⟩ ⟨by decide, by decide⟩ rfl (Nat.le_of_ble_eq_true rfl) ?_
  refine x_nmI (fun J8 eJ8 => ?_)
  refine x_nmF (fun Q8 eQ8 => ?_)
  exact x_vret h dX18_init_11 rfl (xpE.to rfl (by subst_vars; rfl) rfl (by subst_vars; rfl))
theorem k18_init_20 (l : Launch) (G : xG_T) (n : Nat) (Ty : Nat → xs_T) (F : xF_T) (I : xI_T) (L : xL_T) (q : Nat) (v : Int32) (hqn : q < n) (hqT : Ty q = some (.inl 20)) : Cg l (4) 0 0 yX18_init cX18_init 3 none G idC [.ref (xb G + q), .ref (xb G + 0), .int v] n Ty I L F (xpE none n Ty (up2 I q 0 v) L (up2 (up2 (up2 F q 3 (some 0)) q 2 (some 0)) q 1 (some 0))) := by
  refine Cg.intro (cls := RX18) (pad := 0) (lv := [some (.ref (xb G + q)), some (.ref (xb G + 0)), some (.int v)]) rfl (by decide) (Nat.le_of_ble_eq_true rfl) rfl (fun Θ h => ?_)
  refine x_aload_n h dX18_init_0 rfl ?_
  refine x_aload_n h dX18_init_1 rfl ?_
  refine x_putrFO h o_X18_1_20 hqn hqT (by decide) rfl (fun C T N q => by cases q; rfl) rfl rfl dX18_init_2 (fun Q2 eQ2 => ?_)
  refine x_aload_n h dX18_init_5 rfl ?_
  refine x_aload_n h dX18_init_6 rfl ?_
  refine x_iload_n h dX18_init_7 rfl ?_
  refine x_callIEv h (As := [.ref _, .int _]) (k17_init_20 l G n Ty Q2 I L q v hqn hqT) i_X18_7 dX18_init_8 ⟨by decide, by decide⟩ ⟨by decide, by decide⟩ rfl (Nat.le_of_ble_eq_true rfl) ?_
  refine x_nmI (fun J8 eJ8 => ?_)
  refine x_nmF (fun Q8 eQ8 => ?_)
  exact x_vret h dX18_init_11 rfl (xpE.to rfl (by subst_vars; rfl) rfl (by subst_vars; rfl))
theorem k19_init_19 (l : Launch) (G : xG_T) (n : Nat) (Ty : Nat → xs_T) (F : xF_T) (I : xI_T) (L : xL_T) (q : Nat) (v : Int32) (hqn : q < n) (hqT : Ty q = some (.inl 19)) : Cg l (4) 0 0 yX19_init cX19_init 3 none G idC [.ref (xb G + q), .ref (xb G + 0), .int v] n Ty I L F (xpE none n Ty (up2 I q 0 v) L (up2 (up2 (up2 F q 3 (some 0)) q 2 (some 0)) q 1 (some 0))) := by
  refine Cg.intro (cls := RX19) (pad := 0) (lv := [some (.ref (xb G + q)), some (.ref (xb G + 0)), some (.int v)]) rfl (by decide) (Nat.le_of_ble_eq_true rfl) rfl (fun Θ h => ?_)
  refine x_aload_n h dX19_init_0 rfl ?_
  refine x_aload_n h dX19_init_1 rfl ?_
  refine x_putrFO h o_X19_1_19 hqn hqT (by decide) rfl (fun C T N q => by cases q; rfl) rfl rfl dX19_init_2 (fun Q2 eQ2 => ?_)
  refine x_aload_n h dX19_init_5 rfl ?_
  refine x_aload_n h dX19_init_6 rfl ?_
  refine x_iload_n h dX19_init_7 rfl ?_
  refine x_callIEv h (As := [.ref _, .int _]) (k16_init_19 l G n Ty Q2 I L q v hqn hqT) i_X19_7 dX19_init_8 ⟨by decide, by decide⟩ ⟨by decide, by decide⟩ rfl (Nat.le_of_ble_eq_true rfl) ?_
  refine x_nmI (fun J8 eJ8 => ?_)
  refine x_nmF (fun Q8 eQ8 => ?_)
  exact x_vret h dX19_init_11 rfl (xpE.to rfl (by subst_vars; rfl) rfl (by subst_vars; rfl))
theorem k19_init_22 (l : Launch) (G : xG_T) (n : Nat) (Ty : Nat → xs_T) (F : xF_T) (I : xI_T) (L : xL_T) (q : Nat) (v : Int32) (hqn : q < n) (hqT : Ty q = some (.inl 22)) : Cg l (4) 0 0 yX19_init cX19_init 3 none G idC [.ref (xb G + q), .ref (xb G + 0), .int v] n Ty I L F (xpE none n Ty (up2 I q 0 v) L (up2 (up2 (up2 F q 3 (some 0)) q 2 (some 0)) q 1 (some 0))) := by
  refine Cg.intro (cls := RX19) (pad := 0) (lv := [some (.ref (xb G + q)), some (.ref (xb G + 0)), some (.int v)]) rfl (by decide) (Nat.le_of_ble_eq_true rfl) rfl (fun Θ h => ?_)
  refine x_aload_n h dX19_init_0 rfl ?_
  refine x_aload_n h dX19_init_1 rfl ?_
  refine x_putrFO h o_X19_1_22 hqn hqT (by decide) rfl (fun C T N q => by cases q; rfl) rfl rfl dX19_init_2 (fun Q2 eQ2 => ?_)
  refine x_aload_n h dX19_init_5 rfl ?_
  refine x_aload_n h dX19_init_6 rfl ?_
  refine x_iload_n h dX19_init_7 rfl ?_
  refine x_callIEv h (As := [.ref _, .int _]) (k16_init_22 l G n Ty Q2 I L q v hqn hqT) i_X19_7 dX19_init_8 ⟨by decide, by decide⟩ ⟨by decide, by decide⟩ rfl (Nat.le_of_ble_eq_true rfl) ?_
  refine x_nmI (fun J8 eJ8 => ?_)
  refine x_nmF (fun Q8 eQ8 => ?_)
  exact x_vret h dX19_init_11 rfl (xpE.to rfl (by subst_vars; rfl) rfl (by subst_vars; rfl))
theorem k20_init_20 (l : Launch) (G : xG_T) (n : Nat) (Ty : Nat → xs_T) (F : xF_T) (I : xI_T) (L : xL_T) (q : Nat) (v : Int32) (hqn : q < n) (hqT : Ty q = some (.inl 20)) : Cg l (5) 0 0 yX20_init cX20_init 3 none G idC [.ref (xb G + q), .ref (xb G + 0), .int v] n Ty I L F (xpE none n Ty (up2 I q 0 v) L (up2 (up2 (up2 (up2 F q 4 (some 0)) q 3 (some 0)) q 2 (some 0)) q 1 (some 0))) := by
  refine Cg.intro (cls := RX20) (pad := 0) (lv := [some (.ref (xb G + q)), some (.ref (xb G + 0)), some (.int v)]) rfl (by decide) (Nat.le_of_ble_eq_true rfl) rfl (fun Θ h => ?_)
  refine x_aload_n h dX20_init_0 rfl ?_
  refine x_aload_n h dX20_init_1 rfl ?_
  refine x_putrFO h o_X20_1_20 hqn hqT (by decide) rfl (fun C T N q => by cases q; rfl) rfl rfl dX20_init_2 (fun Q2 eQ2 => ?_)
  refine x_aload_n h dX20_init_5 rfl ?_
  refine x_aload_n h dX20_init_6 rfl ?_
  refine x_iload_n h dX20_init_7 rfl ?_
  refine x_callIEv h (As := [.ref _, .int _]) (k18_init_20 l G n Ty Q2 I L q v hqn hqT) i_X20_7 dX20_init_8 ⟨by decide, by decide⟩ ⟨by decide, by decide⟩ rfl (Nat.le_of_ble_eq_true rfl) ?_
  refine x_nmI (fun J8 eJ8 => ?_)
  refine x_nmF (fun Q8 eQ8 => ?_)
  exact x_vret h dX20_init_11 rfl (xpE.to rfl (by subst_vars; rfl) rfl (by subst_vars; rfl))
theorem k22_init_22 (l : Launch) (G : xG_T) (n : Nat) (Ty : Nat → xs_T) (F : xF_T) (I : xI_T) (L : xL_T) (q : Nat) (v : Int32) (hqn : q < n) (hqT : Ty q = some (.inl 22)) : Cg l (5) 0 0 yX22_init cX22_init 3 none G idC [.ref (xb G + q), .ref (xb G + 0), .int v] n Ty I L F (xpE none n Ty (up2 I q 0 v) L (up2 (up2 (up2 (up2 F q 4 (some 0)) q 3 (some 0)) q 2 (some 0)) q 1 (some 0))) := by
  refine Cg.intro (cls := RX22) (pad := 0) (lv := [some (.ref (xb G + q)), some (.ref (xb G + 0)), some (.int v)]) rfl (by decide) (Nat.le_of_ble_eq_true rfl) rfl (fun Θ h => ?_)
  refine x_aload_n h dX22_init_0 rfl ?_
  refine x_aload_n h dX22_init_1 rfl ?_
  refine x_putrFO h o_X22_1_22 hqn hqT (by decide) rfl (fun C T N q => by cases q; rfl) rfl rfl dX22_init_2 (fun Q2 eQ2 => ?_)
  refine x_aload_n h dX22_init_5 rfl ?_
  refine x_aload_n h dX22_init_6 rfl ?_
  refine x_iload_n h dX22_init_7 rfl ?_
  refine x_callIEv h (As := [.ref _, .int _]) (k19_init_22 l G n Ty Q2 I L q v hqn hqT) i_X22_7 dX22_init_8 ⟨by decide, by decide⟩ ⟨by decide, by decide⟩ rfl (Nat.le_of_ble_eq_true rfl) ?_
  refine x_nmI (fun J8 eJ8 => ?_)
  refine x_nmF (fun Q8 eQ8 => ?_)
  exact x_vret h dX22_init_11 rfl (xpE.to rfl (by subst_vars; rfl) rfl (by subst_vars; rfl))
set_option maxHeartbeats 4000000 in
theorem k0_made0 (l : Launch) (G : xG_T) (n : Nat) (Ty : Nat → xs_T) (F : xF_T) (hC : WC n Ty F) (I : xI_T) (L : xL_T)   : Cg l (6) 1 5 yX0_made cX0_made 2 (some (.object "ThirdAfter$Latch")) G idC [.ref (xb G + 0), .int 0] n Ty I L F (xpE (some (.ref (xb G + n))) (n + 1) (nwT Ty n (some (.inl 15))) (up2 (nw1 I n 0) n 0 (I 0 42)) L (up2 (nw1 F n none) n 1 (some 0))) := by
  refine Cg.intro (cls := RX0) (pad := 0) (lv := [some (.ref (xb G + 0)), some (.int 0)]) rfl (by decide) (Nat.le_of_ble_eq_true rfl) rfl (fun Θ h => ?_)
  refine x_iload_n h dX0_made_0 rfl ?_
  refine x_tabOut h 135 dX0_made_1 (by decide) rfl ?_
  refine x_new h n_X0_199 (Or.inr hC.1) ⟨Nat.le_of_ble_eq_true rfl, Nat.le_of_ble_eq_true rfl⟩ dX0_made_135 ?_
  refine x_nmW (fun n135 Ty135 J135 F135 en135 eT135 eJ135 eF135 => ?_)
  have hC135 : WC n135 Ty135 F135 := by rw [en135, eT135, eF135]; exact hC.nw
  have hl135 : n < n135 := by rw [en135]; exact Nat.lt_succ_self _
  have ht135 : Ty135 n = some (.inl 15) := by rw [eT135, nwT_ap, if_pos rfl]
  have hg135 : grw n n135 Ty Ty135 := by rw [en135, eT135]; exact grw.nw
  refine x_dup h dX0_made_138 rfl ?_
  refine x_aload_n h dX0_made_139 rfl ?_
  refine x_aload_n h dX0_made_140 rfl ?_
  refine x_geti h g_X0_428 (mlt hC135.1 rfl) (hC135.2.1 _ _ rfl) rfl dX0_made_141 ?_
  refine x_eqi (I 0 42) (by rw [eJ135, nw1_r _ _ _ (by have := hC.1; omega)]) ?_
  refine x_callIEv h (As := [.ref _, .int _]) (k15_init_15 l G n135 Ty135 F135 J135 L n (I 0 42) hl135 ht135) i_X0_454 dX0_made_144 ⟨by decide, by decide⟩ ⟨by decide, by decide⟩ rfl (Nat.le_of_ble_eq_true rfl) ?_
  refine x_nmI (fun J144 eJ144 => ?_)
  refine x_nmF (fun Q144 eQ144 => ?_)
  refine x_wid h (by decide) (by decide) ?_
  exact x_aret h dX0_made_147 (Or.inl ⟨_, rfl⟩) rfl ⟨rfl, en135, eT135, by rw [eJ144, eJ135], rfl, by rw [eQ144, eF135]⟩
set_option maxHeartbeats 4000000 in
theorem k0_made1 (l : Launch) (G : xG_T) (n : Nat) (Ty : Nat → xs_T) (F : xF_T) (hC : WC n Ty F) (I : xI_T) (L : xL_T)   : Cg l (6) 1 5 yX0_made cX0_made 2 (some (.object "ThirdAfter$Latch")) G idC [.ref (xb G + 0), .int 1] n Ty I L F (xpE (some (.ref (xb G + n))) (n + 1) (nwT Ty n (some (.inl 16))) (up2 (nw1 I n 0) n 0 (I 0 42)) L (up2 (up2 (nw1 F n none) n 2 (some 0)) n 1 (some 0))) := by
  refine Cg.intro (cls := RX0) (pad := 0) (lv := [some (.ref (xb G + 0)), some (.int 1)]) rfl (by decide) (Nat.le_of_ble_eq_true rfl) rfl (fun Θ h => ?_)
  refine x_iload_n h dX0_made_0 rfl ?_
  refine x_tabIn h 44 dX0_made_1 (by decide) (by decide) rfl rfl ?_
  refine x_new h n_X0_431 (Or.inr hC.1) ⟨Nat.le_of_ble_eq_true rfl, Nat.le_of_ble_eq_true rfl⟩ dX0_made_44 ?_
  refine x_nmW (fun n44 Ty44 J44 F44 en44 eT44 eJ44 eF44 => ?_)
  have hC44 : WC n44 Ty44 F44 := by rw [en44, eT44, eF44]; exact hC.nw
  have hl44 : n < n44 := by rw [en44]; exact Nat.lt_succ_self _
  have ht44 : Ty44 n = some (.inl 16) := by rw [eT44, nwT_ap, if_pos rfl]
  have hg44 : grw n n44 Ty Ty44 := by rw [en44, eT44]; exact grw.nw
  refine x_dup h dX0_made_47 rfl ?_
  refine x_aload_n h dX0_made_48 rfl ?_
  refine x_aload_n h dX0_made_49 rfl ?_
  refine x_geti h g_X0_428 (mlt hC44.1 rfl) (hC44.2.1 _ _ rfl) rfl dX0_made_50 ?_
  refine x_eqi (I 0 42) (by rw [eJ44, nw1_r _ _ _ (by have := hC.1; omega)]) ?_
  refine x_callIEv h (As := [.ref _, .int _]) (k16_init_16 l G n44 Ty44 F44 J44 L n (I 0 42) hl44 ht44) i_X0_433 dX0_made_53 ⟨by decide, by decide⟩ ⟨by decide, by decide⟩ rfl (Nat.le_of_ble_eq_true rfl) ?_
  refine x_nmI (fun J53 eJ53 => ?_)
  refine x_nmF (fun Q53 eQ53 => ?_)
  refine x_wid h (by decide) (by decide) ?_
  exact x_aret h dX0_made_56 (Or.inl ⟨_, rfl⟩) rfl ⟨rfl, en44, eT44, by rw [eJ53, eJ44], rfl, by rw [eQ53, eF44]⟩
set_option maxHeartbeats 4000000 in
theorem k0_made2 (l : Launch) (G : xG_T) (n : Nat) (Ty : Nat → xs_T) (F : xF_T) (hC : WC n Ty F) (I : xI_T) (L : xL_T)   : Cg l (6) 1 5 yX0_made cX0_made 2 (some (.object "ThirdAfter$Latch")) G idC [.ref (xb G + 0), .int 2] n Ty I L F (xpE (some (.ref (xb G + n))) (n + 1) (nwT Ty n (some (.inl 17))) (up2 (nw1 I n 0) n 0 (I 0 42)) L (up2 (up2 (nw1 F n none) n 2 (some 0)) n 1 (some 0))) := by
  refine Cg.intro (cls := RX0) (pad := 0) (lv := [some (.ref (xb G + 0)), some (.int 2)]) rfl (by decide) (Nat.le_of_ble_eq_true rfl) rfl (fun Θ h => ?_)
  refine x_iload_n h dX0_made_0 rfl ?_
  refine x_tabIn h 57 dX0_made_1 (by decide) (by decide) rfl rfl ?_
  refine x_new h n_X0_436 (Or.inr hC.1) ⟨Nat.le_of_ble_eq_true rfl, Nat.le_of_ble_eq_true rfl⟩ dX0_made_57 ?_
  refine x_nmW (fun n57 Ty57 J57 F57 en57 eT57 eJ57 eF57 => ?_)
  have hC57 : WC n57 Ty57 F57 := by rw [en57, eT57, eF57]; exact hC.nw
  have hl57 : n < n57 := by rw [en57]; exact Nat.lt_succ_self _
  have ht57 : Ty57 n = some (.inl 17) := by rw [eT57, nwT_ap, if_pos rfl]
  have hg57 : grw n n57 Ty Ty57 := by rw [en57, eT57]; exact grw.nw
  refine x_dup h dX0_made_60 rfl ?_
  refine x_aload_n h dX0_made_61 rfl ?_
  refine x_aload_n h dX0_made_62 rfl ?_
  refine x_geti h g_X0_428 (mlt hC57.1 rfl) (hC57.2.1 _ _ rfl) rfl dX0_made_63 ?_
  refine x_eqi (I 0 42) (by rw [eJ57, nw1_r _ _ _ (by have := hC.1; omega)]) ?_
  refine x_callIEv h (As := [.ref _, .int _]) (k17_init_17 l G n57 Ty57 F57 J57 L n (I 0 42) hl57 ht57) i_X0_438 dX0_made_66 ⟨by decide, by decide⟩ ⟨by decide, by decide⟩ rfl (Nat.le_of_ble_eq_true rfl) ?_
  refine x_nmI (fun J66 eJ66 => ?_)
  refine x_nmF (fun Q66 eQ66 => ?_)
  refine x_wid h (by decide) (by decide) ?_
  exact x_aret h dX0_made_69 (Or.inl ⟨_, rfl⟩) rfl ⟨rfl, en57, eT57, by rw [eJ66, eJ57], rfl, by rw [eQ66, eF57]⟩
set_option maxHeartbeats 4000000 in
theorem k0_made3 (l : Launch) (G : xG_T) (n : Nat) (Ty : Nat → xs_T) (F : xF_T) (hC : WC n Ty F) (I : xI_T) (L : xL_T)   : Cg l (6) 1 5 yX0_made cX0_made 2 (some (.object "ThirdAfter$Latch")) G idC [.ref (xb G + 0), .int 3] n Ty I L F (xpE (some (.ref (xb G + n))) (n + 1) (nwT Ty n (some (.inl 18))) (up2 (nw1 I n 0) n 0 (I 0 42)) L (up2 (up2 (up2 (nw1 F n none) n 3 (some 0)) n 2 (some 0)) n 1 (some 0))) := by
  refine Cg.intro (cls := RX0) (pad := 0) (lv := [some (.ref (xb G + 0)), some (.int 3)]) rfl (by decide) (Nat.le_of_ble_eq_true rfl) rfl (fun Θ h => ?_)
  refine x_iload_n h dX0_made_0 rfl ?_
  refine x_tabIn h 70 dX0_made_1 (by decide) (by decide) rfl rfl ?_
  refine x_new h n_X0_439 (Or.inr hC.1) ⟨Nat.le_of_ble_eq_true rfl, Nat.le_of_ble_eq_true rfl⟩ dX0_made_70 ?_
  refine x_nmW (fun n70 Ty70 J70 F70 en70 eT70 eJ70 eF70 => ?_)
  have hC70 : WC n70 Ty70 F70 := by rw [en70, eT70, eF70]; exact hC.nw
  have hl70 : n < n70 := by rw [en70]; exact Nat.lt_succ_self _
  have ht70 : Ty70 n = some (.inl 18) := by rw [eT70, nwT_ap, if_pos rfl]
  have hg70 : grw n n70 Ty Ty70 := by rw [en70, eT70]; exact grw.nw
  refine x_dup h dX0_made_73 rfl ?_
  refine x_aload_n h dX0_made_74 rfl ?_
  refine x_aload_n h dX0_made_75 rfl ?_
  refine x_geti h g_X0_428 (mlt hC70.1 rfl) (hC70.2.1 _ _ rfl) rfl dX0_made_76 ?_
  refine x_eqi (I 0 42) (by rw [eJ70, nw1_r _ _ _ (by have := hC.1; omega)]) ?_
  refine x_callIEv h (As := [.ref _, .int _]) (k18_init_18 l G n70 Ty70 F70 J70 L n (I 0 42) hl70 ht70) i_X0_441 dX0_made_79 ⟨by decide, by decide⟩ ⟨by decide, by decide⟩ rfl (Nat.le_of_ble_eq_true rfl) ?_
  refine x_nmI (fun J79 eJ79 => ?_)
  refine x_nmF (fun Q79 eQ79 => ?_)
  refine x_wid h (by decide) (by decide) ?_
  exact x_aret h dX0_made_82 (Or.inl ⟨_, rfl⟩) rfl ⟨rfl, en70, eT70, by rw [eJ79, eJ70], rfl, by rw [eQ79, eF70]⟩
set_option maxHeartbeats 4000000 in
theorem k0_made4 (l : Launch) (G : xG_T) (n : Nat) (Ty : Nat → xs_T) (F : xF_T) (hC : WC n Ty F) (I : xI_T) (L : xL_T)   : Cg l (6) 1 5 yX0_made cX0_made 2 (some (.object "ThirdAfter$Latch")) G idC [.ref (xb G + 0), .int 4] n Ty I L F (xpE (some (.ref (xb G + n))) (n + 1) (nwT Ty n (some (.inl 19))) (up2 (nw1 I n 0) n 0 (I 0 42)) L (up2 (up2 (up2 (nw1 F n none) n 3 (some 0)) n 2 (some 0)) n 1 (some 0))) := by
  refine Cg.intro (cls := RX0) (pad := 0) (lv := [some (.ref (xb G + 0)), some (.int 4)]) rfl (by decide) (Nat.le_of_ble_eq_true rfl) rfl (fun Θ h => ?_)
  refine x_iload_n h dX0_made_0 rfl ?_
  refine x_tabIn h 83 dX0_made_1 (by decide) (by decide) rfl rfl ?_
  refine x_new h n_X0_442 (Or.inr hC.1) ⟨Nat.le_of_ble_eq_true rfl, Nat.le_of_ble_eq_true rfl⟩ dX0_made_83 ?_
  refine x_nmW (fun n83 Ty83 J83 F83 en83 eT83 eJ83 eF83 => ?_)
  have hC83 : WC n83 Ty83 F83 := by rw [en83, eT83, eF83]; exact hC.nw
  have hl83 : n < n83 := by rw [en83]; exact Nat.lt_succ_self _
  have ht83 : Ty83 n = some (.inl 19) := by rw [eT83, nwT_ap, if_pos rfl]
  have hg83 : grw n n83 Ty Ty83 := by rw [en83, eT83]; exact grw.nw
  refine x_dup h dX0_made_86 rfl ?_
  refine x_aload_n h dX0_made_87 rfl ?_
  refine x_aload_n h dX0_made_88 rfl ?_
  refine x_geti h g_X0_428 (mlt hC83.1 rfl) (hC83.2.1 _ _ rfl) rfl dX0_made_89 ?_
  refine x_eqi (I 0 42) (by rw [eJ83, nw1_r _ _ _ (by have := hC.1; omega)]) ?_
  refine x_callIEv h (As := [.ref _, .int _]) (k19_init_19 l G n83 Ty83 F83 J83 L n (I 0 42) hl83 ht83) i_X0_444 dX0_made_92 ⟨by decide, by decide⟩ ⟨by decide, by decide⟩ rfl (Nat.le_of_ble_eq_true rfl) ?_
  refine x_nmI (fun J92 eJ92 => ?_)
  refine x_nmF (fun Q92 eQ92 => ?_)
  refine x_wid h (by decide) (by decide) ?_
  exact x_aret h dX0_made_95 (Or.inl ⟨_, rfl⟩) rfl ⟨rfl, en83, eT83, by rw [eJ92, eJ83], rfl, by rw [eQ92, eF83]⟩
set_option maxHeartbeats 4000000 in
theorem k0_made5 (l : Launch) (G : xG_T) (n : Nat) (Ty : Nat → xs_T) (F : xF_T) (hC : WC n Ty F) (I : xI_T) (L : xL_T)   : Cg l (6) 1 5 yX0_made cX0_made 2 (some (.object "ThirdAfter$Latch")) G idC [.ref (xb G + 0), .int 5] n Ty I L F (xpE (some (.ref (xb G + n))) (n + 1) (nwT Ty n (some (.inl 20))) (up2 (nw1 I n 0) n 0 (I 0 42)) L (up2 (up2 (up2 (up2 (nw1 F n none) n 4 (some 0)) n 3 (some 0)) n 2 (some 0)) n 1 (some 0))) := by
  refine Cg.intro (cls := RX0) (pad := 0) (lv := [some (.ref (xb G + 0)), some (.int 5)]) rfl (by decide) (Nat.le_of_ble_eq_true rfl) rfl (fun Θ h => ?_)
  refine x_iload_n h dX0_made_0 rfl ?_
  refine x_tabIn h 96 dX0_made_1 (by decide) (by decide) rfl rfl ?_
  refine x_new h n_X0_445 (Or.inr hC.1) ⟨Nat.le_of_ble_eq_true rfl, Nat.le_of_ble_eq_true rfl⟩ dX0_made_96 ?_
  refine x_nmW (fun n96 Ty96 J96 F96 en96 eT96 eJ96 eF96 => ?_)
  have hC96 : WC n96 Ty96 F96 := by rw [en96, eT96, eF96]; exact hC.nw
  have hl96 : n < n96 := by rw [en96]; exact Nat.lt_succ_self _
  have ht96 : Ty96 n = some (.inl 20) := by rw [eT96, nwT_ap, if_pos rfl]
  have hg96 : grw n n96 Ty Ty96 := by rw [en96, eT96]; exact grw.nw
  refine x_dup h dX0_made_99 rfl ?_
  refine x_aload_n h dX0_made_100 rfl ?_
  refine x_aload_n h dX0_made_101 rfl ?_
  refine x_geti h g_X0_428 (mlt hC96.1 rfl) (hC96.2.1 _ _ rfl) rfl dX0_made_102 ?_
  refine x_eqi (I 0 42) (by rw [eJ96, nw1_r _ _ _ (by have := hC.1; omega)]) ?_
  refine x_callIEv h (As := [.ref _, .int _]) (k20_init_20 l G n96 Ty96 F96 J96 L n (I 0 42) hl96 ht96) i_X0_447 dX0_made_105 ⟨by decide, by decide⟩ ⟨by decide, by decide⟩ rfl (Nat.le_of_ble_eq_true rfl) ?_
  refine x_nmI (fun J105 eJ105 => ?_)
  refine x_nmF (fun Q105 eQ105 => ?_)
  refine x_wid h (by decide) (by decide) ?_
  exact x_aret h dX0_made_108 (Or.inl ⟨_, rfl⟩) rfl ⟨rfl, en96, eT96, by rw [eJ105, eJ96], rfl, by rw [eQ105, eF96]⟩
set_option maxHeartbeats 4000000 in
theorem k0_made6 (l : Launch) (G : xG_T) (n : Nat) (Ty : Nat → xs_T) (F : xF_T) (hC : WC n Ty F) (I : xI_T) (L : xL_T)   : Cg l (6) 1 5 yX0_made cX0_made 2 (some (.object "ThirdAfter$Latch")) G idC [.ref (xb G + 0), .int 6] n Ty I L F (xpE (some (.ref (xb G + n))) (n + 1) (nwT Ty n (some (.inl 21))) (up2 (nw1 I n 0) n 0 (I 0 42)) L (up2 (up2 (nw1 F n none) n 2 (some 0)) n 1 (some 0))) := by
  refine Cg.intro (cls := RX0) (pad := 0) (lv := [some (.ref (xb G + 0)), some (.int 6)]) rfl (by decide) (Nat.le_of_ble_eq_true rfl) rfl (fun Θ h => ?_)
  refine x_iload_n h dX0_made_0 rfl ?_
  refine x_tabIn h 109 dX0_made_1 (by decide) (by decide) rfl rfl ?_
  refine x_new h n_X0_448 (Or.inr hC.1) ⟨Nat.le_of_ble_eq_true rfl, Nat.le_of_ble_eq_true rfl⟩ dX0_made_109 ?_
  refine x_nmW (fun n109 Ty109 J109 F109 en109 eT109 eJ109 eF109 => ?_)
  have hC109 : WC n109 Ty109 F109 := by rw [en109, eT109, eF109]; exact hC.nw
  have hl109 : n < n109 := by rw [en109]; exact Nat.lt_succ_self _
  have ht109 : Ty109 n = some (.inl 21) := by rw [eT109, nwT_ap, if_pos rfl]
  have hg109 : grw n n109 Ty Ty109 := by rw [en109, eT109]; exact grw.nw
  refine x_dup h dX0_made_112 rfl ?_
  refine x_aload_n h dX0_made_113 rfl ?_
  refine x_aload_n h dX0_made_114 rfl ?_
  refine x_geti h g_X0_428 (mlt hC109.1 rfl) (hC109.2.1 _ _ rfl) rfl dX0_made_115 ?_
  refine x_eqi (I 0 42) (by rw [eJ109, nw1_r _ _ _ (by have := hC.1; omega)]) ?_
  refine x_callIEv h (As := [.ref _, .int _]) (k21_init_21 l G n109 Ty109 F109 J109 L n (I 0 42) hl109 ht109) i_X0_450 dX0_made_118 ⟨by decide, by decide⟩ ⟨by decide, by decide⟩ rfl (Nat.le_of_ble_eq_true rfl) ?_
  refine x_nmI (fun J118 eJ118 => ?_)
  refine x_nmF (fun Q118 eQ118 => ?_)
  refine x_wid h (by decide) (by decide) ?_
  exact x_aret h dX0_made_121 (Or.inl ⟨_, rfl⟩) rfl ⟨rfl, en109, eT109, by rw [eJ118, eJ109], rfl, by rw [eQ118, eF109]⟩
set_option maxHeartbeats 4000000 in
theorem k0_made7 (l : Launch) (G : xG_T) (n : Nat) (Ty : Nat → xs_T) (F : xF_T) (hC : WC n Ty F) (I : xI_T) (L : xL_T)   : Cg l (6) 1 5 yX0_made cX0_made 2 (some (.object "ThirdAfter$Latch")) G idC [.ref (xb G + 0), .int 7] n Ty I L F (xpE (some (.ref (xb G + n))) (n + 1) (nwT Ty n (some (.inl 22))) (up2 (nw1 I n 0) n 0 (I 0 42)) L (up2 (up2 (up2 (up2 (nw1 F n none) n 4 (some 0)) n 3 (some 0)) n 2 (some 0)) n 1 (some 0))) := by
  refine Cg.intro (cls := RX0) (pad := 0) (lv := [some (.ref (xb G + 0)), some (.int 7)]) rfl (by decide) (Nat.le_of_ble_eq_true rfl) rfl (fun Θ h => ?_)
  refine x_iload_n h dX0_made_0 rfl ?_
  refine x_tabIn h 122 dX0_made_1 (by decide) (by decide) rfl rfl ?_
  refine x_new h n_X0_451 (Or.inr hC.1) ⟨Nat.le_of_ble_eq_true rfl, Nat.le_of_ble_eq_true rfl⟩ dX0_made_122 ?_
  refine x_nmW (fun n122 Ty122 J122 F122 en122 eT122 eJ122 eF122 => ?_)
  have hC122 : WC n122 Ty122 F122 := by rw [en122, eT122, eF122]; exact hC.nw
  have hl122 : n < n122 := by rw [en122]; exact Nat.lt_succ_self _
  have ht122 : Ty122 n = some (.inl 22) := by rw [eT122, nwT_ap, if_pos rfl]
  have hg122 : grw n n122 Ty Ty122 := by rw [en122, eT122]; exact grw.nw
  refine x_dup h dX0_made_125 rfl ?_
  refine x_aload_n h dX0_made_126 rfl ?_
  refine x_aload_n h dX0_made_127 rfl ?_
  refine x_geti h g_X0_428 (mlt hC122.1 rfl) (hC122.2.1 _ _ rfl) rfl dX0_made_128 ?_
  refine x_eqi (I 0 42) (by rw [eJ122, nw1_r _ _ _ (by have := hC.1; omega)]) ?_
  refine x_callIEv h (As := [.ref _, .int _]) (k22_init_22 l G n122 Ty122 F122 J122 L n (I 0 42) hl122 ht122) i_X0_453 dX0_made_131 ⟨by decide, by decide⟩ ⟨by decide, by decide⟩ rfl (Nat.le_of_ble_eq_true rfl) ?_
  refine x_nmI (fun J131 eJ131 => ?_)
  refine x_nmF (fun Q131 eQ131 => ?_)
  refine x_wid h (by decide) (by decide) ?_
  exact x_aret h dX0_made_134 (Or.inl ⟨_, rfl⟩) rfl ⟨rfl, en122, eT122, by rw [eJ131, eJ122], rfl, by rw [eQ131, eF122]⟩
