/-! WALKS OF THE COMPONENT: rows made -/
theorem i_X23_1 : xcin RX23 1 yX14_init cX14_init 1 0 := ⟨_, lw_meth q1114, q128, q1486, q1113, rfl, by decide +kernel, by decide +kernel, by decide +kernel⟩
theorem i_X24_1 : xcin RX24 1 yX23_init cX23_init 1 0 := ⟨_, lw_meth q1485, q138, q1483, q1484, rfl, by decide +kernel, by decide +kernel, by decide +kernel⟩
theorem p_X24_7 : xfp RX24 7 24 0 (tyX24 0) true := ⟨_, _, _, tyX24, rfl, by decide, in_X24, q1487, rfl, tyX24_ok, nmX24, tyX24_ok 0 (by decide), rfl⟩
theorem i_X25_1 : xcin RX25 1 yX23_init cX23_init 1 0 := ⟨_, lw_meth q1485, q138, q1495, q1484, rfl, by decide +kernel, by decide +kernel, by decide +kernel⟩
theorem p_X25_7 : xfp RX25 7 25 0 (tyX25 0) true := ⟨_, _, _, tyX25, rfl, by decide, in_X25, q1496, rfl, tyX25_ok, nmX25, tyX25_ok 0 (by decide), rfl⟩
theorem i_X26_1 : xcin RX26 1 yX23_init cX23_init 1 0 := ⟨_, lw_meth q1485, q138, q1506, q1484, rfl, by decide +kernel, by decide +kernel, by decide +kernel⟩
theorem p_X26_7 : xfp RX26 7 26 0 (tyX26 0) true := ⟨_, _, _, tyX26, rfl, by decide, in_X26, q1507, rfl, tyX26_ok, nmX26, tyX26_ok 0 (by decide), rfl⟩
theorem i_X27_1 : xcin RX27 1 yX23_init cX23_init 1 0 := ⟨_, lw_meth q1485, q138, q1516, q1484, rfl, by decide +kernel, by decide +kernel, by decide +kernel⟩
theorem p_X27_7 : xfp RX27 7 27 0 (tyX27 0) true := ⟨_, _, _, tyX27, rfl, by decide, in_X27, q1517, rfl, tyX27_ok, nmX27, tyX27_ok 0 (by decide), rfl⟩
theorem i_X28_1 : xcin RX28 1 yX23_init cX23_init 1 0 := ⟨_, lw_meth q1485, q138, q1527, q1484, rfl, by decide +kernel, by decide +kernel, by decide +kernel⟩
theorem p_X28_7 : xfp RX28 7 28 0 (tyX28 0) true := ⟨_, _, _, tyX28, rfl, by decide, in_X28, q1528, rfl, tyX28_ok, nmX28, tyX28_ok 0 (by decide), rfl⟩
theorem k14_init (l : Launch) (G : xG_T) (n : Nat) (Ty : Nat → xs_T) (F : xF_T) (I : xI_T) (L : xL_T) (q : Nat)   : Cg l (1) 0 0 yX14_init cX14_init 1 none G idC [.ref (xb G + q)] n Ty I L F (xpE none n Ty (I) L (F)) := by
  refine Cg.intro (cls := RX14) (pad := 0) (lv := [some (.ref (xb G + q))]) rfl (by decide) (Nat.le_of_ble_eq_true rfl) rfl (fun Θ h => ?_)
  refine x_aload_n h dX14_init_0 rfl ?_
  refine x_objInit h q1115 q162 q163 (by decide) (Nat.le_of_ble_eq_true rfl) dX14_init_1 ?_
  exact x_vret h dX14_init_4 rfl (xpE.to rfl (by subst_vars; rfl) rfl (by subst_vars; rfl))
theorem k23_init (l : Launch) (G : xG_T) (n : Nat) (Ty : Nat → xs_T) (F : xF_T) (I : xI_T) (L : xL_T) (q : Nat)   : Cg l (2) 0 0 yX23_init cX23_init 1 none G idC [.ref (xb G + q)] n Ty I L F (xpE none n Ty (I) L (F)) := by
  refine Cg.intro (cls := RX23) (pad := 0) (lv := [some (.ref (xb G + q))]) rfl (by decide) (Nat.le_of_ble_eq_true rfl) rfl (fun Θ h => ?_)
  refine x_aload_n h dX23_init_0 rfl ?_
  refine x_callINEv h (As := []) (k14_init l G n _ _ _ _ q) i_X23_1 dX23_init_1 ⟨by decide, by decide⟩ ⟨by decide, by decide⟩ rfl (Nat.le_of_ble_eq_true rfl) ?_
  exact x_vret h dX23_init_4 rfl (xpE.to rfl (by subst_vars; rfl) rfl (by subst_vars; rfl))
set_option maxHeartbeats 4000000 in
theorem k24_init (l : Launch) (G : xG_T) (n : Nat) (Ty : Nat → xs_T) (F : xF_T) (hC : WC n Ty F) (I : xI_T) (L : xL_T) (q z : Nat) (hqn : q < n) (hqT : Ty q = some (.inl 24)) (hz : z ≤ 60) : Cg l (3) 1 60 yX24_init cX24_init 2 (none) G idC [.ref (xb G + q), .int (nI z)] n Ty I L F (xpE none (n + 1) (nwT Ty n (some (.inr (1, z)))) (nw1 I n 0) (nw1 L n 0) (up2 F q 0 (some n))) := by
  refine Cg.intro (cls := RX24) (pad := 0) (lv := [some (.ref (xb G + q)), some (.int (nI z))]) rfl (by decide) (Nat.le_of_ble_eq_true rfl) rfl (fun Θ h => ?_)
  refine x_aload_n h dX24_init_0 rfl ?_
  refine x_callINEv h (As := []) (k23_init l G n _ _ _ _ q) i_X24_1 dX24_init_1 ⟨by decide, by decide⟩ ⟨by decide, by decide⟩ rfl (Nat.le_of_ble_eq_true rfl) ?_
  refine x_aload_n h dX24_init_4 rfl ?_
  refine x_iload_n h dX24_init_5 rfl ?_
  refine x_newa1 h (N := z) q264 (Or.inr hC.1) (not_lt_nI (by omega)) (nI_clamp (by omega)) (by omega) ⟨by omega, by omega⟩ dX24_init_6 ?_
  refine x_nmW (fun n6 Ty6 J6 F6 en6 eT6 eJ6 eF6 => ?_)
  refine x_nmL (fun M6 eM6 => ?_)
  have hq6 : q < n6 := by omega
  have ht6 : Ty6 q = some (.inl 24) := by rw [eT6, nwT_ap, if_neg (by omega)]; exact hqT
  refine x_putrF h p_X24_7 hq6 ht6 (by decide) rfl (fun C T N q => by cases q; rfl) rfl rfl dX24_init_8 (fun Q8 eQ8 => ?_)
  refine x_wid h (by omega) (by omega) ?_
  exact x_vret h dX24_init_11 rfl ⟨rfl, en6, eT6, eJ6, eM6, by rw [eQ8, eF6]⟩
set_option maxHeartbeats 4000000 in
theorem k24_initZ (l : Launch) (hl : l.stackTraces = false) (G : xG_T) (n : Nat) (Ty : Nat → xs_T) (F : xF_T) (hC : WC n Ty F) (I : xI_T) (L : xL_T) (q : Nat) (v : Int32) (hqn : q < n) (hqT : Ty q = some (.inl 24)) (hv : v < 0) : CgX l (201) 3 1010 yX24_init cX24_init 2 (none) G idC [.ref (xb G + q), .int v] n Ty I L F (pF) (pxE "java/lang/NegativeArraySizeException" n Ty I L F) := by
  refine CgX.intro (cls := RX24) (pad := 0) (lv := [some (.ref (xb G + q)), some (.int v)]) rfl (by decide) (Nat.le_of_ble_eq_true rfl) rfl (fun Θ h hX => ?_)
  refine x_aload_n h dX24_init_0 rfl ?_
  refine x_callINEv h (As := []) (k23_init l G n _ _ _ _ q) i_X24_1 dX24_init_1 ⟨by decide, by decide⟩ ⟨by decide, by decide⟩ rfl (Nat.le_of_ble_eq_true rfl) ?_
  refine x_aload_n h dX24_init_4 rfl ?_
  refine x_iload_n h dX24_init_5 rfl ?_
  refine x_newa1Z h hl hv dX24_init_6 (by decide) ⟨by decide, by decide⟩ (Nat.le_of_ble_eq_true rfl) (fun n9 hn9 => x_out h hX ⟨rfl, hn9, rfl, rfl, rfl, rfl⟩ (by decide) (by decide))
set_option maxHeartbeats 4000000 in
theorem k25_init (l : Launch) (G : xG_T) (n : Nat) (Ty : Nat → xs_T) (F : xF_T) (hC : WC n Ty F) (I : xI_T) (L : xL_T) (q z : Nat) (hqn : q < n) (hqT : Ty q = some (.inl 25)) (hz : z ≤ 60) : Cg l (3) 1 60 yX25_init cX25_init 2 (none) G idC [.ref (xb G + q), .int (nI z)] n Ty I L F (xpE none (n + 1) (nwT Ty n (some (.inr (2, z)))) (nw1 I n 0) (nw1 L n 0) (up2 F q 0 (some n))) := by
  refine Cg.intro (cls := RX25) (pad := 0) (lv := [some (.ref (xb G + q)), some (.int (nI z))]) rfl (by decide) (Nat.le_of_ble_eq_true rfl) rfl (fun Θ h => ?_)
  refine x_aload_n h dX25_init_0 rfl ?_
  refine x_callINEv h (As := []) (k23_init l G n _ _ _ _ q) i_X25_1 dX25_init_1 ⟨by decide, by decide⟩ ⟨by decide, by decide⟩ rfl (Nat.le_of_ble_eq_true rfl) ?_
  refine x_aload_n h dX25_init_4 rfl ?_
  refine x_iload_n h dX25_init_5 rfl ?_
  refine x_newa2 h (N := z) q1500 (Or.inr hC.1) (not_lt_nI (by omega)) (nI_clamp (by omega)) (by omega) ⟨by omega, by omega⟩ dX25_init_6 ?_
  refine x_nmW (fun n6 Ty6 J6 F6 en6 eT6 eJ6 eF6 => ?_)
  refine x_nmL (fun M6 eM6 => ?_)
  have hq6 : q < n6 := by omega
  have ht6 : Ty6 q = some (.inl 25) := by rw [eT6, nwT_ap, if_neg (by omega)]; exact hqT
  refine x_putrF h p_X25_7 hq6 ht6 (by decide) rfl (fun C T N q => by cases q; rfl) rfl rfl dX25_init_8 (fun Q8 eQ8 => ?_)
  refine x_wid h (by omega) (by omega) ?_
  exact x_vret h dX25_init_11 rfl ⟨rfl, en6, eT6, eJ6, eM6, by rw [eQ8, eF6]⟩
set_option maxHeartbeats 4000000 in
theorem k25_initZ (l : Launch) (hl : l.stackTraces = false) (G : xG_T) (n : Nat) (Ty : Nat → xs_T) (F : xF_T) (hC : WC n Ty F) (I : xI_T) (L : xL_T) (q : Nat) (v : Int32) (hqn : q < n) (hqT : Ty q = some (.inl 25)) (hv : v < 0) : CgX l (201) 3 1010 yX25_init cX25_init 2 (none) G idC [.ref (xb G + q), .int v] n Ty I L F (pF) (pxE "java/lang/NegativeArraySizeException" n Ty I L F) := by
  refine CgX.intro (cls := RX25) (pad := 0) (lv := [some (.ref (xb G + q)), some (.int v)]) rfl (by decide) (Nat.le_of_ble_eq_true rfl) rfl (fun Θ h hX => ?_)
  refine x_aload_n h dX25_init_0 rfl ?_
  refine x_callINEv h (As := []) (k23_init l G n _ _ _ _ q) i_X25_1 dX25_init_1 ⟨by decide, by decide⟩ ⟨by decide, by decide⟩ rfl (Nat.le_of_ble_eq_true rfl) ?_
  refine x_aload_n h dX25_init_4 rfl ?_
  refine x_iload_n h dX25_init_5 rfl ?_
  refine x_newa2Z h hl hv dX25_init_6 (by decide) ⟨by decide, by decide⟩ (Nat.le_of_ble_eq_true rfl) (fun n9 hn9 => x_out h hX ⟨rfl, hn9, rfl, rfl, rfl, rfl⟩ (by decide) (by decide))
set_option maxHeartbeats 4000000 in
theorem k26_init (l : Launch) (G : xG_T) (n : Nat) (Ty : Nat → xs_T) (F : xF_T) (hC : WC n Ty F) (I : xI_T) (L : xL_T) (q z : Nat) (hqn : q < n) (hqT : Ty q = some (.inl 26)) (hz : z ≤ 60) : Cg l (3) 1 60 yX26_init cX26_init 2 (none) G idC [.ref (xb G + q), .int (nI z)] n Ty I L F (xpE none (n + 1) (nwT Ty n (some (.inr (0, z)))) (nw1 I n 0) (nw1 L n 0) (up2 F q 0 (some n))) := by
  refine Cg.intro (cls := RX26) (pad := 0) (lv := [some (.ref (xb G + q)), some (.int (nI z))]) rfl (by decide) (Nat.le_of_ble_eq_true rfl) rfl (fun Θ h => ?_)
  refine x_aload_n h dX26_init_0 rfl ?_
  refine x_callINEv h (As := []) (k23_init l G n _ _ _ _ q) i_X26_1 dX26_init_1 ⟨by decide, by decide⟩ ⟨by decide, by decide⟩ rfl (Nat.le_of_ble_eq_true rfl) ?_
  refine x_aload_n h dX26_init_4 rfl ?_
  refine x_iload_n h dX26_init_5 rfl ?_
  refine x_newa0 h (N := z) q651 (Or.inr hC.1) (not_lt_nI (by omega)) (nI_clamp (by omega)) (by omega) ⟨by omega, by omega⟩ dX26_init_6 ?_
  refine x_nmW (fun n6 Ty6 J6 F6 en6 eT6 eJ6 eF6 => ?_)
  refine x_nmL (fun M6 eM6 => ?_)
  have hq6 : q < n6 := by omega
  have ht6 : Ty6 q = some (.inl 26) := by rw [eT6, nwT_ap, if_neg (by omega)]; exact hqT
  refine x_putrF h p_X26_7 hq6 ht6 (by decide) rfl (fun C T N q => by cases q; rfl) rfl rfl dX26_init_8 (fun Q8 eQ8 => ?_)
  refine x_wid h (by omega) (by omega) ?_
  exact x_vret h dX26_init_11 rfl ⟨rfl, en6, eT6, eJ6, eM6, by rw [eQ8, eF6]⟩
set_option maxHeartbeats 4000000 in
theorem k26_initZ (l : Launch) (hl : l.stackTraces = false) (G : xG_T) (n : Nat) (Ty : Nat → xs_T) (F : xF_T) (hC : WC n Ty F) (I : xI_T) (L : xL_T) (q : Nat) (v : Int32) (hqn : q < n) (hqT : Ty q = some (.inl 26)) (hv : v < 0) : CgX l (201) 3 1010 yX26_init cX26_init 2 (none) G idC [.ref (xb G + q), .int v] n Ty I L F (pF) (pxE "java/lang/NegativeArraySizeException" n Ty I L F) := by
  refine CgX.intro (cls := RX26) (pad := 0) (lv := [some (.ref (xb G + q)), some (.int v)]) rfl (by decide) (Nat.le_of_ble_eq_true rfl) rfl (fun Θ h hX => ?_)
  refine x_aload_n h dX26_init_0 rfl ?_
  refine x_callINEv h (As := []) (k23_init l G n _ _ _ _ q) i_X26_1 dX26_init_1 ⟨by decide, by decide⟩ ⟨by decide, by decide⟩ rfl (Nat.le_of_ble_eq_true rfl) ?_
  refine x_aload_n h dX26_init_4 rfl ?_
  refine x_iload_n h dX26_init_5 rfl ?_
  refine x_newa0Z h hl hv dX26_init_6 (by decide) ⟨by decide, by decide⟩ (Nat.le_of_ble_eq_true rfl) (fun n9 hn9 => x_out h hX ⟨rfl, hn9, rfl, rfl, rfl, rfl⟩ (by decide) (by decide))
set_option maxHeartbeats 4000000 in
theorem k27_init (l : Launch) (G : xG_T) (n : Nat) (Ty : Nat → xs_T) (F : xF_T) (hC : WC n Ty F) (I : xI_T) (L : xL_T) (q z : Nat) (hqn : q < n) (hqT : Ty q = some (.inl 27)) (hz : z ≤ 60) : Cg l (3) 1 60 yX27_init cX27_init 2 (none) G idC [.ref (xb G + q), .int (nI z)] n Ty I L F (xpE none (n + 1) (nwT Ty n (some (.inr (4, z)))) (nw1 I n 0) (nw1 L n 0) (up2 F q 0 (some n))) := by
  refine Cg.intro (cls := RX27) (pad := 0) (lv := [some (.ref (xb G + q)), some (.int (nI z))]) rfl (by decide) (Nat.le_of_ble_eq_true rfl) rfl (fun Θ h => ?_)
  refine x_aload_n h dX27_init_0 rfl ?_
  refine x_callINEv h (As := []) (k23_init l G n _ _ _ _ q) i_X27_1 dX27_init_1 ⟨by decide, by decide⟩ ⟨by decide, by decide⟩ rfl (Nat.le_of_ble_eq_true rfl) ?_
  refine x_aload_n h dX27_init_4 rfl ?_
  refine x_iload_n h dX27_init_5 rfl ?_
  refine x_newa4 h (N := z) q1521 (Or.inr hC.1) (not_lt_nI (by omega)) (nI_clamp (by omega)) (by omega) ⟨by omega, by omega⟩ dX27_init_6 ?_
  refine x_nmW (fun n6 Ty6 J6 F6 en6 eT6 eJ6 eF6 => ?_)
  refine x_nmL (fun M6 eM6 => ?_)
  have hq6 : q < n6 := by omega
  have ht6 : Ty6 q = some (.inl 27) := by rw [eT6, nwT_ap, if_neg (by omega)]; exact hqT
  refine x_putrF h p_X27_7 hq6 ht6 (by decide) rfl (fun C T N q => by cases q; rfl) rfl rfl dX27_init_8 (fun Q8 eQ8 => ?_)
  refine x_wid h (by omega) (by omega) ?_
  exact x_vret h dX27_init_11 rfl ⟨rfl, en6, eT6, eJ6, eM6, by rw [eQ8, eF6]⟩
set_option maxHeartbeats 4000000 in
theorem k27_initZ (l : Launch) (hl : l.stackTraces = false) (G : xG_T) (n : Nat) (Ty : Nat → xs_T) (F : xF_T) (hC : WC n Ty F) (I : xI_T) (L : xL_T) (q : Nat) (v : Int32) (hqn : q < n) (hqT : Ty q = some (.inl 27)) (hv : v < 0) : CgX l (201) 3 1010 yX27_init cX27_init 2 (none) G idC [.ref (xb G + q), .int v] n Ty I L F (pF) (pxE "java/lang/NegativeArraySizeException" n Ty I L F) := by
  refine CgX.intro (cls := RX27) (pad := 0) (lv := [some (.ref (xb G + q)), some (.int v)]) rfl (by decide) (Nat.le_of_ble_eq_true rfl) rfl (fun Θ h hX => ?_)
  refine x_aload_n h dX27_init_0 rfl ?_
  refine x_callINEv h (As := []) (k23_init l G n _ _ _ _ q) i_X27_1 dX27_init_1 ⟨by decide, by decide⟩ ⟨by decide, by decide⟩ rfl (Nat.le_of_ble_eq_true rfl) ?_
  refine x_aload_n h dX27_init_4 rfl ?_
  refine x_iload_n h dX27_init_5 rfl ?_
  refine x_newa4Z h hl hv dX27_init_6 (by decide) ⟨by decide, by decide⟩ (Nat.le_of_ble_eq_true rfl) (fun n9 hn9 => x_out h hX ⟨rfl, hn9, rfl, rfl, rfl, rfl⟩ (by decide) (by decide))
set_option maxHeartbeats 4000000 in
theorem k28_init (l : Launch) (G : xG_T) (n : Nat) (Ty : Nat → xs_T) (F : xF_T) (hC : WC n Ty F) (I : xI_T) (L : xL_T) (q z : Nat) (hqn : q < n) (hqT : Ty q = some (.inl 28)) (hz : z ≤ 60) : Cg l (3) 1 60 yX28_init cX28_init 2 (none) G idC [.ref (xb G + q), .int (nI z)] n Ty I L F (xpE none (n + 1) (nwT Ty n (some (.inr (3, z)))) (nw1 I n 0) (nw1 L n 0) (up2 F q 0 (some n))) := by
  refine Cg.intro (cls := RX28) (pad := 0) (lv := [some (.ref (xb G + q)), some (.int (nI z))]) rfl (by decide) (Nat.le_of_ble_eq_true rfl) rfl (fun Θ h => ?_)
  refine x_aload_n h dX28_init_0 rfl ?_
  refine x_callINEv h (As := []) (k23_init l G n _ _ _ _ q) i_X28_1 dX28_init_1 ⟨by decide, by decide⟩ ⟨by decide, by decide⟩ rfl (Nat.le_of_ble_eq_true rfl) ?_
  refine x_aload_n h dX28_init_4 rfl ?_
  refine x_iload_n h dX28_init_5 rfl ?_
  refine x_newa3 h (N := z) q1532 (Or.inr hC.1) (not_lt_nI (by omega)) (nI_clamp (by omega)) (by omega) ⟨by omega, by omega⟩ dX28_init_6 ?_
  refine x_nmW (fun n6 Ty6 J6 F6 en6 eT6 eJ6 eF6 => ?_)
  refine x_nmL (fun M6 eM6 => ?_)
  have hq6 : q < n6 := by omega
  have ht6 : Ty6 q = some (.inl 28) := by rw [eT6, nwT_ap, if_neg (by omega)]; exact hqT
  refine x_putrF h p_X28_7 hq6 ht6 (by decide) rfl (fun C T N q => by cases q; rfl) rfl rfl dX28_init_8 (fun Q8 eQ8 => ?_)
  refine x_wid h (by omega) (by omega) ?_
  exact x_vret h dX28_init_11 rfl ⟨rfl, en6, eT6, eJ6, eM6, by rw [eQ8, eF6]⟩
set_option maxHeartbeats 4000000 in
theorem k28_initZ (l : Launch) (hl : l.stackTraces = false) (G : xG_T) (n : Nat) (Ty : Nat → xs_T) (F : xF_T) (hC : WC n Ty F) (I : xI_T) (L : xL_T) (q : Nat) (v : Int32) (hqn : q < n) (hqT : Ty q = some (.inl 28)) (hv : v < 0) : CgX l (201) 3 1010 yX28_init cX28_init 2 (none) G idC [.ref (xb G + q), .int v] n Ty I L F (pF) (pxE "java/lang/NegativeArraySizeException" n Ty I L F) := by
  refine CgX.intro (cls := RX28) (pad := 0) (lv := [some (.ref (xb G + q)), some (.int v)]) rfl (by decide) (Nat.le_of_ble_eq_true rfl) rfl (fun Θ h hX => ?_)
  refine x_aload_n h dX28_init_0 rfl ?_
  refine x_callINEv h (As := []) (k23_init l G n _ _ _ _ q) i_X28_1 dX28_init_1 ⟨by decide, by decide⟩ ⟨by decide, by decide⟩ rfl (Nat.le_of_ble_eq_true rfl) ?_
  refine x_aload_n h dX28_init_4 rfl ?_
  refine x_iload_n h dX28_init_5 rfl ?_
  refine x_newa3Z h hl hv dX28_init_6 (by decide) ⟨by decide, by decide⟩ (Nat.le_of_ble_eq_true rfl) (fun n9 hn9 => x_out h hX ⟨rfl, hn9, rfl, rfl, rfl, rfl⟩ (by decide) (by decide))
