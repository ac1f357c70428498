/-! WALKS OF THE COMPONENT: what bodies pay out -/
theorem u_X15_26_X15 : xcu RX15 26 15 "ThirdAfter$Latch" ⟨"ThirdAfter$Latch", "began", "(I)V"⟩ yX15_began cX15_began 2 (none) 1 := ⟨_, _, _, rfl, lw_app (a := [.methodLink RX15 26 ⟨"ThirdAfter$Latch", "began", "(I)V"⟩, .sameMethod "ThirdAfter$Latch" "ThirdAfter$Latch" "began" "(I)V", .selects RX15 ⟨"ThirdAfter$Latch", "began", "(I)V"⟩ yX15_began, .instanceMethod yX15_began, .initialized RX15]) (List.forall_mem_cons.mpr ⟨q1342, List.forall_mem_cons.mpr ⟨q2225, List.forall_mem_cons.mpr ⟨q2230, List.forall_mem_cons.mpr ⟨q1233, List.forall_mem_cons.mpr ⟨q129, fun w h => absurd h List.not_mem_nil⟩⟩⟩⟩⟩) (lw_meth q1234), by decide +kernel, by decide +kernel, by decide +kernel, Or.inl rfl⟩
theorem go_X15_15_15 : xfg RX15 15 15 0 := ⟨_, _, _, rfl, by decide, in_X15, q1117, rfl⟩
theorem u_X15_26_X16 : xcu RX15 26 16 "ThirdAfter$Latch" ⟨"ThirdAfter$Latch", "began", "(I)V"⟩ yX15_began cX15_began 2 (none) 1 := ⟨_, _, _, rfl, lw_app (a := [.methodLink RX15 26 ⟨"ThirdAfter$Latch", "began", "(I)V"⟩, .sameMethod "ThirdAfter$Latch" "ThirdAfter$Latch" "began" "(I)V", .selects RX16 ⟨"ThirdAfter$Latch", "began", "(I)V"⟩ yX15_began, .instanceMethod yX15_began, .initialized RX15]) (List.forall_mem_cons.mpr ⟨q1342, List.forall_mem_cons.mpr ⟨q2225, List.forall_mem_cons.mpr ⟨q2226, List.forall_mem_cons.mpr ⟨q1233, List.forall_mem_cons.mpr ⟨q129, fun w h => absurd h List.not_mem_nil⟩⟩⟩⟩⟩) (lw_meth q1234), by decide +kernel, by decide +kernel, by decide +kernel, Or.inl rfl⟩
theorem go_X15_15_16 : xfg RX15 15 16 0 := ⟨_, _, _, rfl, by decide, in_X16, q1117, rfl⟩
theorem u_X15_26_X17 : xcu RX15 26 17 "ThirdAfter$Latch" ⟨"ThirdAfter$Latch", "began", "(I)V"⟩ yX15_began cX15_began 2 (none) 1 := ⟨_, _, _, rfl, lw_app (a := [.methodLink RX15 26 ⟨"ThirdAfter$Latch", "began", "(I)V"⟩, .sameMethod "ThirdAfter$Latch" "ThirdAfter$Latch" "began" "(I)V", .selects RX17 ⟨"ThirdAfter$Latch", "began", "(I)V"⟩ yX15_began, .instanceMethod yX15_began, .initialized RX15]) (List.forall_mem_cons.mpr ⟨q1342, List.forall_mem_cons.mpr ⟨q2225, List.forall_mem_cons.mpr ⟨q2231, List.forall_mem_cons.mpr ⟨q1233, List.forall_mem_cons.mpr ⟨q129, fun w h => absurd h List.not_mem_nil⟩⟩⟩⟩⟩) (lw_meth q1234), by decide +kernel, by decide +kernel, by decide +kernel, Or.inl rfl⟩
theorem go_X15_15_17 : xfg RX15 15 17 0 := ⟨_, _, _, rfl, by decide, in_X17, q1117, rfl⟩
theorem u_X15_26_X18 : xcu RX15 26 18 "ThirdAfter$Latch" ⟨"ThirdAfter$Latch", "began", "(I)V"⟩ yX15_began cX15_began 2 (none) 1 := ⟨_, _, _, rfl, lw_app (a := [.methodLink RX15 26 ⟨"ThirdAfter$Latch", "began", "(I)V"⟩, .sameMethod "ThirdAfter$Latch" "ThirdAfter$Latch" "began" "(I)V", .selects RX18 ⟨"ThirdAfter$Latch", "began", "(I)V"⟩ yX15_began, .instanceMethod yX15_began, .initialized RX15]) (List.forall_mem_cons.mpr ⟨q1342, List.forall_mem_cons.mpr ⟨q2225, List.forall_mem_cons.mpr ⟨q2227, List.forall_mem_cons.mpr ⟨q1233, List.forall_mem_cons.mpr ⟨q129, fun w h => absurd h List.not_mem_nil⟩⟩⟩⟩⟩) (lw_meth q1234), by decide +kernel, by decide +kernel, by decide +kernel, Or.inl rfl⟩
theorem go_X15_15_18 : xfg RX15 15 18 0 := ⟨_, _, _, rfl, by decide, in_X18, q1117, rfl⟩
theorem u_X15_26_X19 : xcu RX15 26 19 "ThirdAfter$Latch" ⟨"ThirdAfter$Latch", "began", "(I)V"⟩ yX15_began cX15_began 2 (none) 1 := ⟨_, _, _, rfl, lw_app (a := [.methodLink RX15 26 ⟨"ThirdAfter$Latch", "began", "(I)V"⟩, .sameMethod "ThirdAfter$Latch" "ThirdAfter$Latch" "began" "(I)V", .selects RX19 ⟨"ThirdAfter$Latch", "began", "(I)V"⟩ yX15_began, .instanceMethod yX15_began, .initialized RX15]) (List.forall_mem_cons.mpr ⟨q1342, List.forall_mem_cons.mpr ⟨q2225, List.forall_mem_cons.mpr ⟨q2233, List.forall_mem_cons.mpr ⟨q1233, List.forall_mem_cons.mpr ⟨q129, fun w h => absurd h List.not_mem_nil⟩⟩⟩⟩⟩) (lw_meth q1234), by decide +kernel, by decide +kernel, by decide +kernel, Or.inl rfl⟩
theorem go_X15_15_19 : xfg RX15 15 19 0 := ⟨_, _, _, rfl, by decide, in_X19, q1117, rfl⟩
theorem u_X15_26_X20 : xcu RX15 26 20 "ThirdAfter$Latch" ⟨"ThirdAfter$Latch", "began", "(I)V"⟩ yX15_began cX15_began 2 (none) 1 := ⟨_, _, _, rfl, lw_app (a := [.methodLink RX15 26 ⟨"ThirdAfter$Latch", "began", "(I)V"⟩, .sameMethod "ThirdAfter$Latch" "ThirdAfter$Latch" "began" "(I)V", .selects RX20 ⟨"ThirdAfter$Latch", "began", "(I)V"⟩ yX15_began, .instanceMethod yX15_began, .initialized RX15]) (List.forall_mem_cons.mpr ⟨q1342, List.forall_mem_cons.mpr ⟨q2225, List.forall_mem_cons.mpr ⟨q2228, List.forall_mem_cons.mpr ⟨q1233, List.forall_mem_cons.mpr ⟨q129, fun w h => absurd h List.not_mem_nil⟩⟩⟩⟩⟩) (lw_meth q1234), by decide +kernel, by decide +kernel, by decide +kernel, Or.inl rfl⟩
theorem go_X15_15_20 : xfg RX15 15 20 0 := ⟨_, _, _, rfl, by decide, in_X20, q1117, rfl⟩
theorem u_X15_26_X21 : xcu RX15 26 21 "ThirdAfter$Latch" ⟨"ThirdAfter$Latch", "began", "(I)V"⟩ yX15_began cX15_began 2 (none) 1 := ⟨_, _, _, rfl, lw_app (a := [.methodLink RX15 26 ⟨"ThirdAfter$Latch", "began", "(I)V"⟩, .sameMethod "ThirdAfter$Latch" "ThirdAfter$Latch" "began" "(I)V", .selects RX21 ⟨"ThirdAfter$Latch", "began", "(I)V"⟩ yX15_began, .instanceMethod yX15_began, .initialized RX15]) (List.forall_mem_cons.mpr ⟨q1342, List.forall_mem_cons.mpr ⟨q2225, List.forall_mem_cons.mpr ⟨q2229, List.forall_mem_cons.mpr ⟨q1233, List.forall_mem_cons.mpr ⟨q129, fun w h => absurd h List.not_mem_nil⟩⟩⟩⟩⟩) (lw_meth q1234), by decide +kernel, by decide +kernel, by decide +kernel, Or.inl rfl⟩
theorem go_X15_15_21 : xfg RX15 15 21 0 := ⟨_, _, _, rfl, by decide, in_X21, q1117, rfl⟩
theorem u_X15_26_X22 : xcu RX15 26 22 "ThirdAfter$Latch" ⟨"ThirdAfter$Latch", "began", "(I)V"⟩ yX15_began cX15_began 2 (none) 1 := ⟨_, _, _, rfl, lw_app (a := [.methodLink RX15 26 ⟨"ThirdAfter$Latch", "began", "(I)V"⟩, .sameMethod "ThirdAfter$Latch" "ThirdAfter$Latch" "began" "(I)V", .selects RX22 ⟨"ThirdAfter$Latch", "began", "(I)V"⟩ yX15_began, .instanceMethod yX15_began, .initialized RX15]) (List.forall_mem_cons.mpr ⟨q1342, List.forall_mem_cons.mpr ⟨q2225, List.forall_mem_cons.mpr ⟨q2232, List.forall_mem_cons.mpr ⟨q1233, List.forall_mem_cons.mpr ⟨q129, fun w h => absurd h List.not_mem_nil⟩⟩⟩⟩⟩) (lw_meth q1234), by decide +kernel, by decide +kernel, by decide +kernel, Or.inl rfl⟩
theorem go_X15_15_22 : xfg RX15 15 22 0 := ⟨_, _, _, rfl, by decide, in_X22, q1117, rfl⟩
set_option maxHeartbeats 4000000 in
theorem kP_0_0 (l : Launch) (G : xG_T) (n : Nat) (Ty : Nat → xs_T) (F : xF_T) (hC : WC n Ty F) (I : xI_T) (L : xL_T) (q t : Nat) (b x : Int32) (hq3 : 103 ≤ q) (hqn : q < n) (hqT : Ty q = some (.inl 15)) (hq1 : F q 1 = some 0) (ht : I 0 39 = nI t) (hb : I q 0 = b) (h9 : t + 1 ≤ 900) : CE l (1) yX15_paysOut cX15_paysOut 2 (some .int) G n Ty F [.ref (xb G + q), .int x] I L (some (.int (x ^^^ b))) (k_rans [11] I) := by
  refine Cg.intro (cls := RX15) (pad := 0) (lv := [some (.ref (xb G + q)), some (.int x)]) rfl (by decide) (Nat.le_of_ble_eq_true rfl) rfl (fun Θ h => ?_)
  refine x_aload_n h dX15_paysOut_0 rfl ?_
  refine x_bipush h dX15_paysOut_1 (11) rfl ?_
  refine x_callUEv h (As := [.int _]) (k15_began_15 l G n _ _ hC _ _ q t 11 hq3 hqn hqT hq1 ht (by omega) (by decide)) u_X15_26_X15 hqn hqT dX15_paysOut_3 ⟨by decide, by decide⟩ ⟨by decide, by decide⟩ rfl (Nat.le_of_ble_eq_true rfl) ?_
  refine x_nmI (fun J3 eJ3 => ?_)
  refine x_nmL (fun M3 eM3 => ?_)
  refine x_iload_n h dX15_paysOut_6 rfl ?_
  refine x_aload_n h dX15_paysOut_7 rfl ?_
  refine x_geti h go_X15_15_15 hqn hqT rfl dX15_paysOut_8 ?_
  refine x_ixor h dX15_paysOut_11 ?_
  exact x_iret h dX15_paysOut_12 rfl (xpE.to (congrArg (fun z => some (Value.int z)) (by rw [eJ3, kran_o (by omega) (by omega), hb])) (by rw [eJ3]; rfl) eM3 rfl)
set_option maxHeartbeats 4000000 in
theorem kP_0_1 (l : Launch) (G : xG_T) (n : Nat) (Ty : Nat → xs_T) (F : xF_T) (hC : WC n Ty F) (I : xI_T) (L : xL_T) (q t : Nat) (b x : Int32) (hq3 : 103 ≤ q) (hqn : q < n) (hqT : Ty q = some (.inl 16)) (hq1 : F q 1 = some 0) (ht : I 0 39 = nI t) (hb : I q 0 = b) (h9 : t + 1 ≤ 900) : CE l (1) yX15_paysOut cX15_paysOut 2 (some .int) G n Ty F [.ref (xb G + q), .int x] I L (some (.int (x ^^^ b))) (k_rans [11] I) := by
  refine Cg.intro (cls := RX15) (pad := 0) (lv := [some (.ref (xb G + q)), some (.int x)]) rfl (by decide) (Nat.le_of_ble_eq_true rfl) rfl (fun Θ h => ?_)
  refine x_aload_n h dX15_paysOut_0 rfl ?_
  refine x_bipush h dX15_paysOut_1 (11) rfl ?_
  refine x_callUEv h (As := [.int _]) (k15_began_16 l G n _ _ hC _ _ q t 11 hq3 hqn hqT hq1 ht (by omega) (by decide)) u_X15_26_X16 hqn hqT dX15_paysOut_3 ⟨by decide, by decide⟩ ⟨by decide, by decide⟩ rfl (Nat.le_of_ble_eq_true rfl) ?_
  refine x_nmI (fun J3 eJ3 => ?_)
  refine x_nmL (fun M3 eM3 => ?_)
  refine x_iload_n h dX15_paysOut_6 rfl ?_
  refine x_aload_n h dX15_paysOut_7 rfl ?_
  refine x_geti h go_X15_15_16 hqn hqT rfl dX15_paysOut_8 ?_
  refine x_ixor h dX15_paysOut_11 ?_
  exact x_iret h dX15_paysOut_12 rfl (xpE.to (congrArg (fun z => some (Value.int z)) (by rw [eJ3, kran_o (by omega) (by omega), hb])) (by rw [eJ3]; rfl) eM3 rfl)
set_option maxHeartbeats 4000000 in
theorem kP_0_2 (l : Launch) (G : xG_T) (n : Nat) (Ty : Nat → xs_T) (F : xF_T) (hC : WC n Ty F) (I : xI_T) (L : xL_T) (q t : Nat) (b x : Int32) (hq3 : 103 ≤ q) (hqn : q < n) (hqT : Ty q = some (.inl 17)) (hq1 : F q 1 = some 0) (ht : I 0 39 = nI t) (hb : I q 0 = b) (h9 : t + 1 ≤ 900) : CE l (1) yX15_paysOut cX15_paysOut 2 (some .int) G n Ty F [.ref (xb G + q), .int x] I L (some (.int (x ^^^ b))) (k_rans [11] I) := by
  refine Cg.intro (cls := RX15) (pad := 0) (lv := [some (.ref (xb G + q)), some (.int x)]) rfl (by decide) (Nat.le_of_ble_eq_true rfl) rfl (fun Θ h => ?_)
  refine x_aload_n h dX15_paysOut_0 rfl ?_
  refine x_bipush h dX15_paysOut_1 (11) rfl ?_
  refine x_callUEv h (As := [.int _]) (k15_began_17 l G n _ _ hC _ _ q t 11 hq3 hqn hqT hq1 ht (by omega) (by decide)) u_X15_26_X17 hqn hqT dX15_paysOut_3 ⟨by decide, by decide⟩ ⟨by decide, by decide⟩ rfl (Nat.le_of_ble_eq_true rfl) ?_
  refine x_nmI (fun J3 eJ3 => ?_)
  refine x_nmL (fun M3 eM3 => ?_)
  refine x_iload_n h dX15_paysOut_6 rfl ?_
  refine x_aload_n h dX15_paysOut_7 rfl ?_
  refine x_geti h go_X15_15_17 hqn hqT rfl dX15_paysOut_8 ?_
  refine x_ixor h dX15_paysOut_11 ?_
  exact x_iret h dX15_paysOut_12 rfl (xpE.to (congrArg (fun z => some (Value.int z)) (by rw [eJ3, kran_o (by omega) (by omega), hb])) (by rw [eJ3]; rfl) eM3 rfl)
set_option maxHeartbeats 4000000 in
theorem kP_0_3 (l : Launch) (G : xG_T) (n : Nat) (Ty : Nat → xs_T) (F : xF_T) (hC : WC n Ty F) (I : xI_T) (L : xL_T) (q t : Nat) (b x : Int32) (hq3 : 103 ≤ q) (hqn : q < n) (hqT : Ty q = some (.inl 18)) (hq1 : F q 1 = some 0) (ht : I 0 39 = nI t) (hb : I q 0 = b) (h9 : t + 1 ≤ 900) : CE l (1) yX15_paysOut cX15_paysOut 2 (some .int) G n Ty F [.ref (xb G + q), .int x] I L (some (.int (x ^^^ b))) (k_rans [11] I) := by
  refine Cg.intro (cls := RX15) (pad := 0) (lv := [some (.ref (xb G + q)), some (.int x)]) rfl (by decide) (Nat.le_of_ble_eq_true rfl) rfl (fun Θ h => ?_)
  refine x_aload_n h dX15_paysOut_0 rfl ?_
  refine x_bipush h dX15_paysOut_1 (11) rfl ?_
  refine x_callUEv h (As := [.int _]) (k15_began_18 l G n _ _ hC _ _ q t 11 hq3 hqn hqT hq1 ht (by omega) (by decide)) u_X15_26_X18 hqn hqT dX15_paysOut_3 ⟨by decide, by decide⟩ ⟨by decide, by decide⟩ rfl (Nat.le_of_ble_eq_true rfl) ?_
  refine x_nmI (fun J3 eJ3 => ?_)
  refine x_nmL (fun M3 eM3 => ?_)
  refine x_iload_n h dX15_paysOut_6 rfl ?_
  refine x_aload_n h dX15_paysOut_7 rfl ?_
  refine x_geti h go_X15_15_18 hqn hqT rfl dX15_paysOut_8 ?_
  refine x_ixor h dX15_paysOut_11 ?_
  exact x_iret h dX15_paysOut_12 rfl (xpE.to (congrArg (fun z => some (Value.int z)) (by rw [eJ3, kran_o (by omega) (by omega), hb])) (by rw [eJ3]; rfl) eM3 rfl)
set_option maxHeartbeats 4000000 in
theorem kP_0_4 (l : Launch) (G : xG_T) (n : Nat) (Ty : Nat → xs_T) (F : xF_T) (hC : WC n Ty F) (I : xI_T) (L : xL_T) (q t : Nat) (b x : Int32) (hq3 : 103 ≤ q) (hqn : q < n) (hqT : Ty q = some (.inl 19)) (hq1 : F q 1 = some 0) (ht : I 0 39 = nI t) (hb : I q 0 = b) (h9 : t + 1 ≤ 900) : CE l (1) yX15_paysOut cX15_paysOut 2 (some .int) G n Ty F [.ref (xb G + q), .int x] I L (some (.int (x ^^^ b))) (k_rans [11] I) := by
  refine Cg.intro (cls := RX15) (pad := 0) (lv := [some (.ref (xb G + q)), some (.int x)]) rfl (by decide) (Nat.le_of_ble_eq_true rfl) rfl (fun Θ h => ?_)
  refine x_aload_n h dX15_paysOut_0 rfl ?_
  refine x_bipush h dX15_paysOut_1 (11) rfl ?_
  refine x_callUEv h (As := [.int _]) (k15_began_19 l G n _ _ hC _ _ q t 11 hq3 hqn hqT hq1 ht (by omega) (by decide)) u_X15_26_X19 hqn hqT dX15_paysOut_3 ⟨by decide, by decide⟩ ⟨by decide, by decide⟩ rfl (Nat.le_of_ble_eq_true rfl) ?_
  refine x_nmI (fun J3 eJ3 => ?_)
  refine x_nmL (fun M3 eM3 => ?_)
  refine x_iload_n h dX15_paysOut_6 rfl ?_
  refine x_aload_n h dX15_paysOut_7 rfl ?_
  refine x_geti h go_X15_15_19 hqn hqT rfl dX15_paysOut_8 ?_
  refine x_ixor h dX15_paysOut_11 ?_
  exact x_iret h dX15_paysOut_12 rfl (xpE.to (congrArg (fun z => some (Value.int z)) (by rw [eJ3, kran_o (by omega) (by omega), hb])) (by rw [eJ3]; rfl) eM3 rfl)
set_option maxHeartbeats 4000000 in
theorem kP_0_5 (l : Launch) (G : xG_T) (n : Nat) (Ty : Nat → xs_T) (F : xF_T) (hC : WC n Ty F) (I : xI_T) (L : xL_T) (q t : Nat) (b x : Int32) (hq3 : 103 ≤ q) (hqn : q < n) (hqT : Ty q = some (.inl 20)) (hq1 : F q 1 = some 0) (ht : I 0 39 = nI t) (hb : I q 0 = b) (h9 : t + 1 ≤ 900) : CE l (1) yX15_paysOut cX15_paysOut 2 (some .int) G n Ty F [.ref (xb G + q), .int x] I L (some (.int (x ^^^ b))) (k_rans [11] I) := by
  refine Cg.intro (cls := RX15) (pad := 0) (lv := [some (.ref (xb G + q)), some (.int x)]) rfl (by decide) (Nat.le_of_ble_eq_true rfl) rfl (fun Θ h => ?_)
  refine x_aload_n h dX15_paysOut_0 rfl ?_
  refine x_bipush h dX15_paysOut_1 (11) rfl ?_
  refine x_callUEv h (As := [.int _]) (k15_began_20 l G n _ _ hC _ _ q t 11 hq3 hqn hqT hq1 ht (by omega) (by decide)) u_X15_26_X20 hqn hqT dX15_paysOut_3 ⟨by decide, by decide⟩ ⟨by decide, by decide⟩ rfl (Nat.le_of_ble_eq_true rfl) ?_
  refine x_nmI (fun J3 eJ3 => ?_)
  refine x_nmL (fun M3 eM3 => ?_)
  refine x_iload_n h dX15_paysOut_6 rfl ?_
  refine x_aload_n h dX15_paysOut_7 rfl ?_
  refine x_geti h go_X15_15_20 hqn hqT rfl dX15_paysOut_8 ?_
  refine x_ixor h dX15_paysOut_11 ?_
  exact x_iret h dX15_paysOut_12 rfl (xpE.to (congrArg (fun z => some (Value.int z)) (by rw [eJ3, kran_o (by omega) (by omega), hb])) (by rw [eJ3]; rfl) eM3 rfl)
set_option maxHeartbeats 4000000 in
theorem kP_0_6 (l : Launch) (G : xG_T) (n : Nat) (Ty : Nat → xs_T) (F : xF_T) (hC : WC n Ty F) (I : xI_T) (L : xL_T) (q t : Nat) (b x : Int32) (hq3 : 103 ≤ q) (hqn : q < n) (hqT : Ty q = some (.inl 21)) (hq1 : F q 1 = some 0) (ht : I 0 39 = nI t) (hb : I q 0 = b) (h9 : t + 1 ≤ 900) : CE l (1) yX15_paysOut cX15_paysOut 2 (some .int) G n Ty F [.ref (xb G + q), .int x] I L (some (.int (x ^^^ b))) (k_rans [11] I) := by
  refine Cg.intro (cls := RX15) (pad := 0) (lv := [some (.ref (xb G + q)), some (.int x)]) rfl (by decide) (Nat.le_of_ble_eq_true rfl) rfl (fun Θ h => ?_)
  refine x_aload_n h dX15_paysOut_0 rfl ?_
  refine x_bipush h dX15_paysOut_1 (11) rfl ?_
  refine x_callUEv h (As := [.int _]) (k15_began_21 l G n _ _ hC _ _ q t 11 hq3 hqn hqT hq1 ht (by omega) (by decide)) u_X15_26_X21 hqn hqT dX15_paysOut_3 ⟨by decide, by decide⟩ ⟨by decide, by decide⟩ rfl (Nat.le_of_ble_eq_true rfl) ?_
  refine x_nmI (fun J3 eJ3 => ?_)
  refine x_nmL (fun M3 eM3 => ?_)
  refine x_iload_n h dX15_paysOut_6 rfl ?_
  refine x_aload_n h dX15_paysOut_7 rfl ?_
  refine x_geti h go_X15_15_21 hqn hqT rfl dX15_paysOut_8 ?_
  refine x_ixor h dX15_paysOut_11 ?_
  exact x_iret h dX15_paysOut_12 rfl (xpE.to (congrArg (fun z => some (Value.int z)) (by rw [eJ3, kran_o (by omega) (by omega), hb])) (by rw [eJ3]; rfl) eM3 rfl)
set_option maxHeartbeats 4000000 in
theorem kP_0_7 (l : Launch) (G : xG_T) (n : Nat) (Ty : Nat → xs_T) (F : xF_T) (hC : WC n Ty F) (I : xI_T) (L : xL_T) (q t : Nat) (b x : Int32) (hq3 : 103 ≤ q) (hqn : q < n) (hqT : Ty q = some (.inl 22)) (hq1 : F q 1 = some 0) (ht : I 0 39 = nI t) (hb : I q 0 = b) (h9 : t + 1 ≤ 900) : CE l (1) yX15_paysOut cX15_paysOut 2 (some .int) G n Ty F [.ref (xb G + q), .int x] I L (some (.int (x ^^^ b))) (k_rans [11] I) := by
  refine Cg.intro (cls := RX15) (pad := 0) (lv := [some (.ref (xb G + q)), some (.int x)]) rfl (by decide) (Nat.le_of_ble_eq_true rfl) rfl (fun Θ h => ?_)
  refine x_aload_n h dX15_paysOut_0 rfl ?_
  refine x_bipush h dX15_paysOut_1 (11) rfl ?_
  refine x_callUEv h (As := [.int _]) (k15_began_22 l G n _ _ hC _ _ q t 11 hq3 hqn hqT hq1 ht (by omega) (by decide)) u_X15_26_X22 hqn hqT dX15_paysOut_3 ⟨by decide, by decide⟩ ⟨by decide, by decide⟩ rfl (Nat.le_of_ble_eq_true rfl) ?_
  refine x_nmI (fun J3 eJ3 => ?_)
  refine x_nmL (fun M3 eM3 => ?_)
  refine x_iload_n h dX15_paysOut_6 rfl ?_
  refine x_aload_n h dX15_paysOut_7 rfl ?_
  refine x_geti h go_X15_15_22 hqn hqT rfl dX15_paysOut_8 ?_
  refine x_ixor h dX15_paysOut_11 ?_
  exact x_iret h dX15_paysOut_12 rfl (xpE.to (congrArg (fun z => some (Value.int z)) (by rw [eJ3, kran_o (by omega) (by omega), hb])) (by rw [eJ3]; rfl) eM3 rfl)
