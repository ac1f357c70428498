/-! WALKS OF THE COMPONENT: rows laid -/
theorem n_X0_278 : xnw RX0 278 24 1 := ⟨_, _, _, tyX24, rfl, in_X24, tyX24_ok, q855, q1479, q139, rfl, fun k hk => match k, hk with | 0, _ => rfl | j + 1, hj => absurd hj (by omega)⟩
theorem i_X0_480 : xci RX0 480 yX24_init cX24_init 2 1 := ⟨lw_meth q1482, q139, q1480, q1481, rfl, by decide +kernel, by decide +kernel, by decide +kernel⟩
theorem n_X0_36 : xnw RX0 36 25 1 := ⟨_, _, _, tyX25, rfl, in_X25, tyX25_ok, q316, q1491, q140, rfl, fun k hk => match k, hk with | 0, _ => rfl | j + 1, hj => absurd hj (by omega)⟩
theorem i_X0_482 : xci RX0 482 yX25_init cX25_init 2 1 := ⟨lw_meth q1494, q140, q1492, q1493, rfl, by decide +kernel, by decide +kernel, by decide +kernel⟩
theorem n_X0_483 : xnw RX0 483 26 1 := ⟨_, _, _, tyX26, rfl, in_X26, tyX26_ok, q1501, q1502, q141, rfl, fun k hk => match k, hk with | 0, _ => rfl | j + 1, hj => absurd hj (by omega)⟩
theorem i_X0_485 : xci RX0 485 yX26_init cX26_init 2 1 := ⟨lw_meth q1505, q141, q1503, q1504, rfl, by decide +kernel, by decide +kernel, by decide +kernel⟩
theorem n_X0_486 : xnw RX0 486 27 1 := ⟨_, _, _, tyX27, rfl, in_X27, tyX27_ok, q1511, q1512, q142, rfl, fun k hk => match k, hk with | 0, _ => rfl | j + 1, hj => absurd hj (by omega)⟩
theorem i_X0_488 : xci RX0 488 yX27_init cX27_init 2 1 := ⟨lw_meth q1515, q142, q1513, q1514, rfl, by decide +kernel, by decide +kernel, by decide +kernel⟩
theorem n_X0_489 : xnw RX0 489 28 1 := ⟨_, _, _, tyX28, rfl, in_X28, tyX28_ok, q1522, q1523, q143, rfl, fun k hk => match k, hk with | 0, _ => rfl | j + 1, hj => absurd hj (by omega)⟩
theorem i_X0_491 : xci RX0 491 yX28_init cX28_init 2 1 := ⟨lw_meth q1526, q143, q1524, q1525, rfl, by decide +kernel, by decide +kernel, by decide +kernel⟩
theorem m_X0_492 : xcs RX0 492 yX0_newRow cX0_newRow 2 (some (.object "ThirdAfter$Row")) 2 := ⟨lw_S q1476 q1477 q99 q1478, by decide +kernel, by decide +kernel, by decide +kernel⟩
set_option maxHeartbeats 4000000 in
theorem k0_newRow0 (l : Launch) (G : xG_T) (n : Nat) (Ty : Nat → xs_T) (F : xF_T) (hC : WC n Ty F) (I : xI_T) (L : xL_T) (z : Nat) (hz : z ≤ 60) : Cg l (5) 2 61 yX0_newRow cX0_newRow 2 (some (.object "ThirdAfter$Row")) G idC [.int 0, .int (nI z)] n Ty I L F (xpE (some (.ref (xb G + n))) (n + 2) (nwT (nwT Ty n (some (.inl 24))) (n + 1) (some (.inr (1, z)))) (nw1 (nw1 I n 0) (n + 1) 0) (nw1 L (n + 1) 0) (up2 (nw1 F n none) n 0 (some (n + 1)))) := by
  refine Cg.intro (cls := RX0) (pad := 0) (lv := [some (.int 0), some (.int (nI z))]) rfl (by decide) (Nat.le_of_ble_eq_true rfl) rfl (fun Θ h => ?_)
  refine x_iload_n h dX0_newRow_0 rfl ?_
  refine x_tabIn h 32 dX0_newRow_1 (by decide) (by decide) rfl rfl ?_
  refine x_new h n_X0_278 (Or.inr hC.1) ⟨Nat.le_of_ble_eq_true rfl, Nat.le_of_ble_eq_true rfl⟩ dX0_newRow_32 ?_
  refine x_nmW (fun n32 Ty32 J32 F32 en32 eT32 eJ32 eF32 => ?_)
  have hC32 : WC n32 Ty32 F32 := by rw [en32, eT32, eF32]; exact hC.nw
  have hl32 : n < n32 := by rw [en32]; exact Nat.lt_succ_self _
  have ht32 : Ty32 n = some (.inl 24) := by rw [eT32, nwT_ap, if_pos rfl]
  have hg32 : grw n n32 Ty Ty32 := by rw [en32, eT32]; exact grw.nw
  refine x_dup h dX0_newRow_35 rfl ?_
  refine x_iload_n h dX0_newRow_36 rfl ?_
  refine x_callIEm h (As := [.int _]) (k24_init l G n32 Ty32 F32 hC32 J32 L n z hl32 ht32 hz) i_X0_480 dX0_newRow_37 ⟨by decide, by decide⟩ ⟨by omega, by omega⟩ rfl (Nat.le_of_ble_eq_true rfl) ?_
  refine x_wid h (by decide) (by decide) ?_
  exact x_aret h dX0_newRow_40 (Or.inl ⟨_, rfl⟩) rfl ⟨rfl, by rw [en32], by rw [eT32, en32], by rw [eJ32, en32], by rw [en32], by rw [eF32, en32]⟩
set_option maxHeartbeats 4000000 in
theorem k0_newRow0Z (l : Launch) (hl : l.stackTraces = false) (G : xG_T) (n : Nat) (Ty : Nat → xs_T) (F : xF_T) (hC : WC n Ty F) (I : xI_T) (L : xL_T) (v : Int32) (hv : v < 0) : CgX l (205) 4 1011 yX0_newRow cX0_newRow 2 (some (.object "ThirdAfter$Row")) G idC [.int 0, .int v] n Ty I L F pF (pxG "java/lang/NegativeArraySizeException" n Ty I L F) := by
  refine CgX.intro (cls := RX0) (pad := 0) (lv := [some (.int 0), some (.int v)]) rfl (by decide) (Nat.le_of_ble_eq_true rfl) rfl (fun Θ h hX => ?_)
  refine x_iload_n h dX0_newRow_0 rfl ?_
  refine x_tabIn h 32 dX0_newRow_1 (by decide) (by decide) rfl rfl ?_
  refine x_new h n_X0_278 (Or.inr hC.1) ⟨Nat.le_of_ble_eq_true rfl, Nat.le_of_ble_eq_true rfl⟩ dX0_newRow_32 ?_
  refine x_nmW (fun n32 Ty32 J32 F32 en32 eT32 eJ32 eF32 => ?_)
  have hC32 : WC n32 Ty32 F32 := by rw [en32, eT32, eF32]; exact hC.nw
  have hl32 : n < n32 := by rw [en32]; exact Nat.lt_succ_self _
  have ht32 : Ty32 n = some (.inl 24) := by rw [eT32, nwT_ap, if_pos rfl]
  have hg32 : grw n n32 Ty Ty32 := by rw [en32, eT32]; exact grw.nw
  refine x_dup h dX0_newRow_35 rfl ?_
  refine x_iload_n h dX0_newRow_36 rfl ?_
  refine x_callIX h (As := [.int _]) (k24_initZ l hl G n32 Ty32 F32 hC32 J32 L n v hl32 ht32 hv) i_X0_480 dX0_newRow_37 ⟨by decide, by decide⟩ ⟨by omega, by omega⟩ rfl (Nat.le_of_ble_eq_true rfl) (fun E37 m37 T37 J37 L37 F37 hpx => ?_) (fun _ _ _ _ _ _ hp => absurd hp id)
  obtain ⟨rfl, h1, rfl, rfl, rfl, rfl⟩ := hpx
  exact x_out h hX ⟨rfl, hg32.tr (grw.xt h1), fun c k z => by rw [eJ32, nw1_r _ _ _ (by omega)], rfl, fun c k z => by rw [eF32, nw1_r _ _ _ (by omega)]⟩ (by omega) (by omega)
set_option maxHeartbeats 4000000 in
theorem k0_newRow1 (l : Launch) (G : xG_T) (n : Nat) (Ty : Nat → xs_T) (F : xF_T) (hC : WC n Ty F) (I : xI_T) (L : xL_T) (z : Nat) (hz : z ≤ 60) : Cg l (5) 2 61 yX0_newRow cX0_newRow 2 (some (.object "ThirdAfter$Row")) G idC [.int 1, .int (nI z)] n Ty I L F (xpE (some (.ref (xb G + n))) (n + 2) (nwT (nwT Ty n (some (.inl 25))) (n + 1) (some (.inr (2, z)))) (nw1 (nw1 I n 0) (n + 1) 0) (nw1 L (n + 1) 0) (up2 (nw1 F n none) n 0 (some (n + 1)))) := by
  refine Cg.intro (cls := RX0) (pad := 0) (lv := [some (.int 1), some (.int (nI z))]) rfl (by decide) (Nat.le_of_ble_eq_true rfl) rfl (fun Θ h => ?_)
  refine x_iload_n h dX0_newRow_0 rfl ?_
  refine x_tabIn h 41 dX0_newRow_1 (by decide) (by decide) rfl rfl ?_
  refine x_new h n_X0_36 (Or.inr hC.1) ⟨Nat.le_of_ble_eq_true rfl, Nat.le_of_ble_eq_true rfl⟩ dX0_newRow_41 ?_
  refine x_nmW (fun n41 Ty41 J41 F41 en41 eT41 eJ41 eF41 => ?_)
  have hC41 : WC n41 Ty41 F41 := by rw [en41, eT41, eF41]; exact hC.nw
  have hl41 : n < n41 := by rw [en41]; exact Nat.lt_succ_self _
  have ht41 : Ty41 n = some (.inl 25) := by rw [eT41, nwT_ap, if_pos rfl]
  have hg41 : grw n n41 Ty Ty41 := by rw [en41, eT41]; exact grw.nw
  refine x_dup h dX0_newRow_44 rfl ?_
  refine x_iload_n h dX0_newRow_45 rfl ?_
  refine x_callIEm h (As := [.int _]) (k25_init l G n41 Ty41 F41 hC41 J41 L n z hl41 ht41 hz) i_X0_482 dX0_newRow_46 ⟨by decide, by decide⟩ ⟨by omega, by omega⟩ rfl (Nat.le_of_ble_eq_true rfl) ?_
  refine x_wid h (by decide) (by decide) ?_
  exact x_aret h dX0_newRow_49 (Or.inl ⟨_, rfl⟩) rfl ⟨rfl, by rw [en41], by rw [eT41, en41], by rw [eJ41, en41], by rw [en41], by rw [eF41, en41]⟩
set_option maxHeartbeats 4000000 in
theorem k0_newRow1Z (l : Launch) (hl : l.stackTraces = false) (G : xG_T) (n : Nat) (Ty : Nat → xs_T) (F : xF_T) (hC : WC n Ty F) (I : xI_T) (L : xL_T) (v : Int32) (hv : v < 0) : CgX l (205) 4 1011 yX0_newRow cX0_newRow 2 (some (.object "ThirdAfter$Row")) G idC [.int 1, .int v] n Ty I L F pF (pxG "java/lang/NegativeArraySizeException" n Ty I L F) := by
  refine CgX.intro (cls := RX0) (pad := 0) (lv := [some (.int 1), some (.int v)]) rfl (by decide) (Nat.le_of_ble_eq_true rfl) rfl (fun Θ h hX => ?_)
  refine x_iload_n h dX0_newRow_0 rfl ?_
  refine x_tabIn h 41 dX0_newRow_1 (by decide) (by decide) rfl rfl ?_
  refine x_new h n_X0_36 (Or.inr hC.1) ⟨Nat.le_of_ble_eq_true rfl, Nat.le_of_ble_eq_true rfl⟩ dX0_newRow_41 ?_
  refine x_nmW (fun n41 Ty41 J41 F41 en41 eT41 eJ41 eF41 => ?_)
  have hC41 : WC n41 Ty41 F41 := by rw [en41, eT41, eF41]; exact hC.nw
  have hl41 : n < n41 := by rw [en41]; exact Nat.lt_succ_self _
  have ht41 : Ty41 n = some (.inl 25) := by rw [eT41, nwT_ap, if_pos rfl]
  have hg41 : grw n n41 Ty Ty41 := by rw [en41, eT41]; exact grw.nw
  refine x_dup h dX0_newRow_44 rfl ?_
  refine x_iload_n h dX0_newRow_45 rfl ?_
  refine x_callIX h (As := [.int _]) (k25_initZ l hl G n41 Ty41 F41 hC41 J41 L n v hl41 ht41 hv) i_X0_482 dX0_newRow_46 ⟨by decide, by decide⟩ ⟨by omega, by omega⟩ rfl (Nat.le_of_ble_eq_true rfl) (fun E46 m46 T46 J46 L46 F46 hpx => ?_) (fun _ _ _ _ _ _ hp => absurd hp id)
  obtain ⟨rfl, h1, rfl, rfl, rfl, rfl⟩ := hpx
  exact x_out h hX ⟨rfl, hg41.tr (grw.xt h1), fun c k z => by rw [eJ41, nw1_r _ _ _ (by omega)], rfl, fun c k z => by rw [eF41, nw1_r _ _ _ (by omega)]⟩ (by omega) (by omega)
set_option maxHeartbeats 4000000 in
theorem k0_newRow2 (l : Launch) (G : xG_T) (n : Nat) (Ty : Nat → xs_T) (F : xF_T) (hC : WC n Ty F) (I : xI_T) (L : xL_T) (z : Nat) (hz : z ≤ 60) : Cg l (5) 2 61 yX0_newRow cX0_newRow 2 (some (.object "ThirdAfter$Row")) G idC [.int 2, .int (nI z)] n Ty I L F (xpE (some (.ref (xb G + n))) (n + 2) (nwT (nwT Ty n (some (.inl 26))) (n + 1) (some (.inr (0, z)))) (nw1 (nw1 I n 0) (n + 1) 0) (nw1 L (n + 1) 0) (up2 (nw1 F n none) n 0 (some (n + 1)))) := by
  refine Cg.intro (cls := RX0) (pad := 0) (lv := [some (.int 2), some (.int (nI z))]) rfl (by decide) (Nat.le_of_ble_eq_true rfl) rfl (fun Θ h => ?_)
  refine x_iload_n h dX0_newRow_0 rfl ?_
  refine x_tabIn h 50 dX0_newRow_1 (by decide) (by decide) rfl rfl ?_
  refine x_new h n_X0_483 (Or.inr hC.1) ⟨Nat.le_of_ble_eq_true rfl, Nat.le_of_ble_eq_true rfl⟩ dX0_newRow_50 ?_
  refine x_nmW (fun n50 Ty50 J50 F50 en50 eT50 eJ50 eF50 => ?_)
  have hC50 : WC n50 Ty50 F50 := by rw [en50, eT50, eF50]; exact hC.nw
  have hl50 : n < n50 := by rw [en50]; exact Nat.lt_succ_self _
  have ht50 : Ty50 n = some (.inl 26) := by rw [eT50, nwT_ap, if_pos rfl]
  have hg50 : grw n n50 Ty Ty50 := by rw [en50, eT50]; exact grw.nw
  refine x_dup h dX0_newRow_53 rfl ?_
  refine x_iload_n h dX0_newRow_54 rfl ?_
  refine x_callIEm h (As := [.int _]) (k26_init l G n50 Ty50 F50 hC50 J50 L n z hl50 ht50 hz) i_X0_485 dX0_newRow_55 ⟨by decide, by decide⟩ ⟨by omega, by omega⟩ rfl (Nat.le_of_ble_eq_true rfl) ?_
  refine x_wid h (by decide) (by decide) ?_
  exact x_aret h dX0_newRow_58 (Or.inl ⟨_, rfl⟩) rfl ⟨rfl, by rw [en50], by rw [eT50, en50], by rw [eJ50, en50], by rw [en50], by rw [eF50, en50]⟩
set_option maxHeartbeats 4000000 in
theorem k0_newRow2Z (l : Launch) (hl : l.stackTraces = false) (G : xG_T) (n : Nat) (Ty : Nat → xs_T) (F : xF_T) (hC : WC n Ty F) (I : xI_T) (L : xL_T) (v : Int32) (hv : v < 0) : CgX l (205) 4 1011 yX0_newRow cX0_newRow 2 (some (.object "ThirdAfter$Row")) G idC [.int 2, .int v] n Ty I L F pF (pxG "java/lang/NegativeArraySizeException" n Ty I L F) := by
  refine CgX.intro (cls := RX0) (pad := 0) (lv := [some (.int 2), some (.int v)]) rfl (by decide) (Nat.le_of_ble_eq_true rfl) rfl (fun Θ h hX => ?_)
  refine x_iload_n h dX0_newRow_0 rfl ?_
  refine x_tabIn h 50 dX0_newRow_1 (by decide) (by decide) rfl rfl ?_
  refine x_new h n_X0_483 (Or.inr hC.1) ⟨Nat.le_of_ble_eq_true rfl, Nat.le_of_ble_eq_true rfl⟩ dX0_newRow_50 ?_
  refine x_nmW (fun n50 Ty50 J50 F50 en50 eT50 eJ50 eF50 => ?_)
  have hC50 : WC n50 Ty50 F50 := by rw [en50, eT50, eF50]; exact hC.nw
  have hl50 : n < n50 := by rw [en50]; exact Nat.lt_succ_self _
  have ht50 : Ty50 n = some (.inl 26) := by rw [eT50, nwT_ap, if_pos rfl]
  have hg50 : grw n n50 Ty Ty50 := by rw [en50, eT50]; exact grw.nw
  refine x_dup h dX0_newRow_53 rfl ?_
  refine x_iload_n h dX0_newRow_54 rfl ?_
  refine x_callIX h (As := [.int _]) (k26_initZ l hl G n50 Ty50 F50 hC50 J50 L n v hl50 ht50 hv) i_X0_485 dX0_newRow_55 ⟨by decide, by decide⟩ ⟨by omega, by omega⟩ rfl (Nat.le_of_ble_eq_true rfl) (fun E55 m55 T55 J55 L55 F55 hpx => ?_) (fun _ _ _ _ _ _ hp => absurd hp id)
  obtain ⟨rfl, h1, rfl, rfl, rfl, rfl⟩ := hpx
  exact x_out h hX ⟨rfl, hg50.tr (grw.xt h1), fun c k z => by rw [eJ50, nw1_r _ _ _ (by omega)], rfl, fun c k z => by rw [eF50, nw1_r _ _ _ (by omega)]⟩ (by omega) (by omega)
set_option maxHeartbeats 4000000 in
theorem k0_newRow3 (l : Launch) (G : xG_T) (n : Nat) (Ty : Nat → xs_T) (F : xF_T) (hC : WC n Ty F) (I : xI_T) (L : xL_T) (z : Nat) (hz : z ≤ 60) : Cg l (5) 2 61 yX0_newRow cX0_newRow 2 (some (.object "ThirdAfter$Row")) G idC [.int 3, .int (nI z)] n Ty I L F (xpE (some (.ref (xb G + n))) (n + 2) (nwT (nwT Ty n (some (.inl 27))) (n + 1) (some (.inr (4, z)))) (nw1 (nw1 I n 0) (n + 1) 0) (nw1 L (n + 1) 0) (up2 (nw1 F n none) n 0 (some (n + 1)))) := by
  refine Cg.intro (cls := RX0) (pad := 0) (lv := [some (.int 3), some (.int (nI z))]) rfl (by decide) (Nat.le_of_ble_eq_true rfl) rfl (fun Θ h => ?_)
  refine x_iload_n h dX0_newRow_0 rfl ?_
  refine x_tabIn h 59 dX0_newRow_1 (by decide) (by decide) rfl rfl ?_
  refine x_new h n_X0_486 (Or.inr hC.1) ⟨Nat.le_of_ble_eq_true rfl, Nat.le_of_ble_eq_true rfl⟩ dX0_newRow_59 ?_
  refine x_nmW (fun n59 Ty59 J59 F59 en59 eT59 eJ59 eF59 => ?_)
  have hC59 : WC n59 Ty59 F59 := by rw [en59, eT59, eF59]; exact hC.nw
  have hl59 : n < n59 := by rw [en59]; exact Nat.lt_succ_self _
  have ht59 : Ty59 n = some (.inl 27) := by rw [eT59, nwT_ap, if_pos rfl]
  have hg59 : grw n n59 Ty Ty59 := by rw [en59, eT59]; exact grw.nw
  refine x_dup h dX0_newRow_62 rfl ?_
  refine x_iload_n h dX0_newRow_63 rfl ?_
  refine x_callIEm h (As := [.int _]) (k27_init l G n59 Ty59 F59 hC59 J59 L n z hl59 ht59 hz) i_X0_488 dX0_newRow_64 ⟨by decide, by decide⟩ ⟨by omega, by omega⟩ rfl (Nat.le_of_ble_eq_true rfl) ?_
  refine x_wid h (by decide) (by decide) ?_
  exact x_aret h dX0_newRow_67 (Or.inl ⟨_, rfl⟩) rfl ⟨rfl, by rw [en59], by rw [eT59, en59], by rw [eJ59, en59], by rw [en59], by rw [eF59, en59]⟩
set_option maxHeartbeats 4000000 in
theorem k0_newRow3Z (l : Launch) (hl : l.stackTraces = false) (G : xG_T) (n : Nat) (Ty : Nat → xs_T) (F : xF_T) (hC : WC n Ty F) (I : xI_T) (L : xL_T) (v : Int32) (hv : v < 0) : CgX l (205) 4 1011 yX0_newRow cX0_newRow 2 (some (.object "ThirdAfter$Row")) G idC [.int 3, .int v] n Ty I L F pF (pxG "java/lang/NegativeArraySizeException" n Ty I L F) := by
  refine CgX.intro (cls := RX0) (pad := 0) (lv := [some (.int 3), some (.int v)]) rfl (by decide) (Nat.le_of_ble_eq_true rfl) rfl (fun Θ h hX => ?_)
  refine x_iload_n h dX0_newRow_0 rfl ?_
  refine x_tabIn h 59 dX0_newRow_1 (by decide) (by decide) rfl rfl ?_
  refine x_new h n_X0_486 (Or.inr hC.1) ⟨Nat.le_of_ble_eq_true rfl, Nat.le_of_ble_eq_true rfl⟩ dX0_newRow_59 ?_
  refine x_nmW (fun n59 Ty59 J59 F59 en59 eT59 eJ59 eF59 => ?_)
  have hC59 : WC n59 Ty59 F59 := by rw [en59, eT59, eF59]; exact hC.nw
  have hl59 : n < n59 := by rw [en59]; exact Nat.lt_succ_self _
  have ht59 : Ty59 n = some (.inl 27) := by rw [eT59, nwT_ap, if_pos rfl]
  have hg59 : grw n n59 Ty Ty59 := by rw [en59, eT59]; exact grw.nw
  refine x_dup h dX0_newRow_62 rfl ?_
  refine x_iload_n h dX0_newRow_63 rfl ?_
  refine x_callIX h (As := [.int _]) (k27_initZ l hl G n59 Ty59 F59 hC59 J59 L n v hl59 ht59 hv) i_X0_488 dX0_newRow_64 ⟨by decide, by decide⟩ ⟨by omega, by omega⟩ rfl (Nat.le_of_ble_eq_true rfl) (fun E64 m64 T64 J64 L64 F64 hpx => ?_) (fun _ _ _ _ _ _ hp => absurd hp id)
  obtain ⟨rfl, h1, rfl, rfl, rfl, rfl⟩ := hpx
  exact x_out h hX ⟨rfl, hg59.tr (grw.xt h1), fun c k z => by rw [eJ59, nw1_r _ _ _ (by omega)], rfl, fun c k z => by rw [eF59, nw1_r _ _ _ (by omega)]⟩ (by omega) (by omega)
set_option maxHeartbeats 4000000 in
theorem k0_newRow4 (l : Launch) (G : xG_T) (n : Nat) (Ty : Nat → xs_T) (F : xF_T) (hC : WC n Ty F) (I : xI_T) (L : xL_T) (z : Nat) (hz : z ≤ 60) : Cg l (5) 2 61 yX0_newRow cX0_newRow 2 (some (.object "ThirdAfter$Row")) G idC [.int 4, .int (nI z)] n Ty I L F (xpE (some (.ref (xb G + n))) (n + 2) (nwT (nwT Ty n (some (.inl 28))) (n + 1) (some (.inr (3, z)))) (nw1 (nw1 I n 0) (n + 1) 0) (nw1 L (n + 1) 0) (up2 (nw1 F n none) n 0 (some (n + 1)))) := by
  refine Cg.intro (cls := RX0) (pad := 0) (lv := [some (.int 4), some (.int (nI z))]) rfl (by decide) (Nat.le_of_ble_eq_true rfl) rfl (fun Θ h => ?_)
  refine x_iload_n h dX0_newRow_0 rfl ?_
  refine x_tabOut h 68 dX0_newRow_1 (by decide) rfl ?_
  refine x_new h n_X0_489 (Or.inr hC.1) ⟨Nat.le_of_ble_eq_true rfl, Nat.le_of_ble_eq_true rfl⟩ dX0_newRow_68 ?_
  refine x_nmW (fun n68 Ty68 J68 F68 en68 eT68 eJ68 eF68 => ?_)
  have hC68 : WC n68 Ty68 F68 := by rw [en68, eT68, eF68]; exact hC.nw
  have hl68 : n < n68 := by rw [en68]; exact Nat.lt_succ_self _
  have ht68 : Ty68 n = some (.inl 28) := by rw [eT68, nwT_ap, if_pos rfl]
  have hg68 : grw n n68 Ty Ty68 := by rw [en68, eT68]; exact grw.nw
  refine x_dup h dX0_newRow_71 rfl ?_
  refine x_iload_n h dX0_newRow_72 rfl ?_
  refine x_callIEm h (As := [.int _]) (k28_init l G n68 Ty68 F68 hC68 J68 L n z hl68 ht68 hz) i_X0_491 dX0_newRow_73 ⟨by decide, by decide⟩ ⟨by omega, by omega⟩ rfl (Nat.le_of_ble_eq_true rfl) ?_
  refine x_wid h (by decide) (by decide) ?_
  exact x_aret h dX0_newRow_76 (Or.inl ⟨_, rfl⟩) rfl ⟨rfl, by rw [en68], by rw [eT68, en68], by rw [eJ68, en68], by rw [en68], by rw [eF68, en68]⟩
set_option maxHeartbeats 4000000 in
theorem k0_newRow4Z (l : Launch) (hl : l.stackTraces = false) (G : xG_T) (n : Nat) (Ty : Nat → xs_T) (F : xF_T) (hC : WC n Ty F) (I : xI_T) (L : xL_T) (v : Int32) (hv : v < 0) : CgX l (205) 4 1011 yX0_newRow cX0_newRow 2 (some (.object "ThirdAfter$Row")) G idC [.int 4, .int v] n Ty I L F pF (pxG "java/lang/NegativeArraySizeException" n Ty I L F) := by
  refine CgX.intro (cls := RX0) (pad := 0) (lv := [some (.int 4), some (.int v)]) rfl (by decide) (Nat.le_of_ble_eq_true rfl) rfl (fun Θ h hX => ?_)
  refine x_iload_n h dX0_newRow_0 rfl ?_
  refine x_tabOut h 68 dX0_newRow_1 (by decide) rfl ?_
  refine x_new h n_X0_489 (Or.inr hC.1) ⟨Nat.le_of_ble_eq_true rfl, Nat.le_of_ble_eq_true rfl⟩ dX0_newRow_68 ?_
  refine x_nmW (fun n68 Ty68 J68 F68 en68 eT68 eJ68 eF68 => ?_)
  have hC68 : WC n68 Ty68 F68 := by rw [en68, eT68, eF68]; exact hC.nw
  have hl68 : n < n68 := by rw [en68]; exact Nat.lt_succ_self _
  have ht68 : Ty68 n = some (.inl 28) := by rw [eT68, nwT_ap, if_pos rfl]
  have hg68 : grw n n68 Ty Ty68 := by rw [en68, eT68]; exact grw.nw
  refine x_dup h dX0_newRow_71 rfl ?_
  refine x_iload_n h dX0_newRow_72 rfl ?_
  refine x_callIX h (As := [.int _]) (k28_initZ l hl G n68 Ty68 F68 hC68 J68 L n v hl68 ht68 hv) i_X0_491 dX0_newRow_73 ⟨by decide, by decide⟩ ⟨by omega, by omega⟩ rfl (Nat.le_of_ble_eq_true rfl) (fun E73 m73 T73 J73 L73 F73 hpx => ?_) (fun _ _ _ _ _ _ hp => absurd hp id)
  obtain ⟨rfl, h1, rfl, rfl, rfl, rfl⟩ := hpx
  exact x_out h hX ⟨rfl, hg68.tr (grw.xt h1), fun c k z => by rw [eJ68, nw1_r _ _ _ (by omega)], rfl, fun c k z => by rw [eF68, nw1_r _ _ _ (by omega)]⟩ (by omega) (by omega)
set_option maxHeartbeats 4000000 in
theorem k0_row (l : Launch) (hl : l.stackTraces = false) (G : xG_T) (n : Nat) (Ty : Nat → xs_T) (F : xF_T) (hC : WC n Ty F) (I : xI_T) (L : xL_T) (J : xI_T) (M : xL_T) (s t v : Int32) (hT : TOP n Ty I L F J M) : CgW l 210 4 1011 yX0_row cX0_row 5 (some .int) [(24, 35, 38, 496)] G idC [.ref (xb G + 0), .int s, .int t, .int v] n Ty I L F (pT n Ty (.int ((m_row J s t v).1)) ((m_row J s t v).2) (m_rowL M s t v)) := by
  refine CgW.intro (cls := RX0) (pad := 1) (lv := [some (.ref (xb G + 0)), some (.int s), some (.int t), some (.int v), none]) rfl (by decide) (Nat.le_of_ble_eq_true rfl) rfl (fun Θ h hTb => ?_)
  refine x_iload_n h dX0_row_0 rfl ?_
  refine x_callSEi h (As := [.int _]) (k0_isShelf l G n _ _ hC _ _ _ ) m_X0_29 dX0_row_1 ⟨by decide, by decide⟩ ⟨by decide, by decide⟩ rfl (Nat.le_of_ble_eq_true rfl) ?_
  refine x_if_eq h 22 dX0_row_4 rfl (fun c4 => ?_) (fun c4 => ?_)
  · skip
    have hm : m_row J s t v = (-1, J) := by unfold m_row; rw [if_pos c4]
    have hmL : m_rowL M s t v = M := by unfold m_rowL; rw [if_pos c4]
    refine x_iconst h dX0_row_22 (-1) rfl ?_
    refine x_wid h (by decide) (by decide) ?_
    exact x_iret h dX0_row_23 rfl (by rw [hm, hmL]; exact ⟨rfl, grw.rf, hT⟩)
  · skip
    obtain ⟨s9, hs9, rfl⟩ := isB_s c4
    refine x_iload_n h dX0_row_7 rfl ?_
    refine x_iconst h dX0_row_8 (0) rfl ?_
    refine x_iconst h dX0_row_9 (4) rfl ?_
    refine x_callSEi h (As := [.int _, .int _, .int _]) (k0_in l G n _ _ hC _ _ _ _ _ ) m_X0_7 dX0_row_10 ⟨by decide, by decide⟩ ⟨by decide, by decide⟩ rfl (Nat.le_of_ble_eq_true rfl) ?_
    refine x_if_eq h 22 dX0_row_13 rfl (fun c13 => ?_) (fun c13 => ?_)
    · skip
      have hm : m_row J (nI s9) t v = (-1, J) := by unfold m_row; rw [if_neg c4, if_pos c13]
      have hmL : m_rowL M (nI s9) t v = M := by unfold m_rowL; rw [if_neg c4, if_pos c13]
      refine x_iconst h dX0_row_22 (-1) rfl ?_
      refine x_wid h (by decide) (by decide) ?_
      exact x_iret h dX0_row_23 rfl (by rw [hm, hmL]; exact ⟨rfl, grw.rf, hT⟩)
    · skip
      refine x_iload_n h dX0_row_16 rfl ?_
      refine x_bipush h dX0_row_17 (60) rfl ?_
      refine x_icmp_le h 24 dX0_row_19 rfl (fun c19 => ?_) (fun c19 => ?_)
      · skip
        rcases five c13 with rfl | rfl | rfl | rfl | rfl
        · skip
          refine x_aload_n h dX0_row_24 rfl ?_
          rcases Classical.em (v < 0) with hneg | hneg
          · skip
            have hm : m_row J (nI s9) 0 v = (-14, J) := by unfold m_row; rw [if_neg c4, if_neg c13, if_neg (Int32.not_lt.mpr c19), if_pos hneg]
            have hmL : m_rowL M (nI s9) 0 v = M := by unfold m_rowL; rw [if_neg c4, if_neg c13, if_neg (Int32.not_lt.mpr c19), if_pos hneg]
            refine x_getr h (j := 33) g_X0_32 (mlt hC.1 rfl) (hC.2.1 _ _ rfl) (by decide) (hC.2.2 _ _ _ rfl) dX0_row_25 ?_
            refine x_iload_n h dX0_row_28 rfl ?_
            refine x_iload_n h dX0_row_29 rfl ?_
            refine x_iload_n h dX0_row_30 rfl ?_
            refine x_callSX h (As := [.int _, .int _]) (k0_newRow0Z l hl G n _ _ hC _ _ v hneg) m_X0_492 dX0_row_31 ⟨by decide, by decide⟩ ⟨by omega, by omega⟩ rfl (Nat.le_of_ble_eq_true rfl) (fun E31 m31 T31 J31 L31 F31 hpx => ?_) (fun _ _ _ _ _ _ hp => absurd hp id)
            obtain ⟨rfl, hg31, hI31, rfl, hF31⟩ := hpx
            refine XN.catch h hTb (pre := []) (x := ⟨24, 35, 38, 496⟩) (suf := _) rfl (fun z hz => absurd hz List.not_mem_nil) (by decide) (by decide) q1462 q1474 (fun a9 => ?_)
            refine x_astore h dX0_row_38 (by decide) [some (.ref (xb G + 0)), some (.int (nI s9)), some (.int 0), some (.int v), some (.ref a9)] rfl ?_
            refine x_bipush h dX0_row_40 (-14) rfl ?_
            refine x_wid h (by decide) (by decide) ?_
            exact x_iret h dX0_row_42 rfl (by rw [hm, hmL]; exact ⟨rfl, hg31, hT.gw hg31 hI31 hF31⟩)
          · skip
            obtain ⟨zn, hz60, rfl⟩ := row_z hneg c19
            have hz : zn ≤ 60 := hz60
            have hm : m_row J (nI s9) 0 (nI zn) = (1, up2 (up2 J 90 s9 (nI 0)) 91 s9 (nI zn)) := by unfold m_row; rw [if_neg c4, if_neg c13, if_neg (Int32.not_lt.mpr c19), if_neg hneg, ix_n (by omega)]; rfl
            have hmL : m_rowL M (nI s9) 0 (nI zn) = fillL M (60 * s9) 60 := by unfold m_rowL; rw [if_neg c4, if_neg c13, if_neg (Int32.not_lt.mpr c19), if_neg hneg, ix_n (by omega)]
            refine x_getr h (j := 33) g_X0_32 (mlt hC.1 rfl) (hC.2.1 _ _ rfl) (by decide) (hC.2.2 _ _ _ rfl) dX0_row_25 ?_
            refine x_iload_n h dX0_row_28 rfl ?_
            refine x_iload_n h dX0_row_29 rfl ?_
            refine x_iload_n h dX0_row_30 rfl ?_
            refine x_callSErm h (As := [.int _, .int _]) (k0_newRow0 l G n _ _ hC _ _ zn hz) m_X0_492 dX0_row_31 ⟨by decide, by decide⟩ ⟨by omega, by omega⟩ rfl (Nat.le_of_ble_eq_true rfl) ?_
            refine x_nmW (fun n31 Ty31 J31 F31 en31 eT31 eJ31 eF31 => ?_)
            refine x_nmL (fun M31 eM31 => ?_)
            have hl31 : n < n31 := by rw [en31]; exact Nat.lt_add_of_pos_right (by decide)
            have ht31 : Ty31 n = some (.inl 24) := by rw [eT31, nwT_ap, if_neg (by omega), nwT_ap, if_pos rfl]
            have hta31 : Ty31 (n + 1) = some (.inr (1, zn)) := by rw [eT31, nwT_ap, if_pos rfl]
            have hg31 : grw n n31 Ty Ty31 := by rw [en31, eT31]; exact grw.nw.tr grw.nw
            have hF31 : ∀ c k : Nat, c < n → F31 c k = F c k := fun c k z => by rw [eF31, up2_i _ _ (by omega), nw1_r _ _ _ (by omega)]
            have hC31 : WC n31 Ty31 F31 := hC.gw hg31 hF31
            refine x_aast h (mlt hC31.1 rfl) (hC31.2.1 _ _ rfl) (by decide) rfl hl31 ht31 rfl (Or.inr q2280) (vp_in_nI hs9 (by decide)) (s9) (nI_clamp (by omega)) dX0_row_34 (fun Q34 eQ34 => ?_)
            have hQ34 : WC n31 Ty31 Q34 := by rw [eQ34]; exact hC31.up (by omega)
            refine x_goto h 43 dX0_row_35 rfl ?_
            refine x_iconst h dX0_row_43 (1) rfl ?_
            refine x_wid h (by decide) (by decide) ?_
            exact x_iret h dX0_row_44 rfl (by rw [hm, hmL]; exact ⟨rfl, hg31, hT.row (t := 0) hs9 (by decide) hz hg31 (by omega) (fun c k z => by rw [eJ31, nw1_r _ _ _ (by omega), nw1_r _ _ _ (by omega)]) (fun k => by rw [eJ31, nw1_ap, if_pos rfl]) (fun c k z => by rw [eM31, nw1_r _ _ _ (by omega)]) (fun k => by rw [eM31, nw1_ap, if_pos rfl]) (fun c k z y => by rw [eQ34, up2_n _ _ (by omega)]; exact hF31 c k z) (by rw [eQ34, up2_s]) (by rw [eQ34, up2_i _ _ (by have := hC.1; omega), eF31, up2_s]) ht31 hta31⟩)
        · skip
          refine x_aload_n h dX0_row_24 rfl ?_
          rcases Classical.em (v < 0) with hneg | hneg
          · skip
            have hm : m_row J (nI s9) 1 v = (-14, J) := by unfold m_row; rw [if_neg c4, if_neg c13, if_neg (Int32.not_lt.mpr c19), if_pos hneg]
            have hmL : m_rowL M (nI s9) 1 v = M := by unfold m_rowL; rw [if_neg c4, if_neg c13, if_neg (Int32.not_lt.mpr c19), if_pos hneg]
            refine x_getr h (j := 33) g_X0_32 (mlt hC.1 rfl) (hC.2.1 _ _ rfl) (by decide) (hC.2.2 _ _ _ rfl) dX0_row_25 ?_
            refine x_iload_n h dX0_row_28 rfl ?_
            refine x_iload_n h dX0_row_29 rfl ?_
            refine x_iload_n h dX0_row_30 rfl ?_
            refine x_callSX h (As := [.int _, .int _]) (k0_newRow1Z l hl G n _ _ hC _ _ v hneg) m_X0_492 dX0_row_31 ⟨by decide, by decide⟩ ⟨by omega, by omega⟩ rfl (Nat.le_of_ble_eq_true rfl) (fun E31 m31 T31 J31 L31 F31 hpx => ?_) (fun _ _ _ _ _ _ hp => absurd hp id)
            obtain ⟨rfl, hg31, hI31, rfl, hF31⟩ := hpx
            refine XN.catch h hTb (pre := []) (x := ⟨24, 35, 38, 496⟩) (suf := _) rfl (fun z hz => absurd hz List.not_mem_nil) (by decide) (by decide) q1462 q1474 (fun a9 => ?_)
            refine x_astore h dX0_row_38 (by decide) [some (.ref (xb G + 0)), some (.int (nI s9)), some (.int 1), some (.int v), some (.ref a9)] rfl ?_
            refine x_bipush h dX0_row_40 (-14) rfl ?_
            refine x_wid h (by decide) (by decide) ?_
            exact x_iret h dX0_row_42 rfl (by rw [hm, hmL]; exact ⟨rfl, hg31, hT.gw hg31 hI31 hF31⟩)
          · skip
            obtain ⟨zn, hz60, rfl⟩ := row_z hneg c19
            have hz : zn ≤ 60 := hz60
            have hm : m_row J (nI s9) 1 (nI zn) = (1, up2 (up2 J 90 s9 (nI 1)) 91 s9 (nI zn)) := by unfold m_row; rw [if_neg c4, if_neg c13, if_neg (Int32.not_lt.mpr c19), if_neg hneg, ix_n (by omega)]; rfl
            have hmL : m_rowL M (nI s9) 1 (nI zn) = fillL M (60 * s9) 60 := by unfold m_rowL; rw [if_neg c4, if_neg c13, if_neg (Int32.not_lt.mpr c19), if_neg hneg, ix_n (by omega)]
            refine x_getr h (j := 33) g_X0_32 (mlt hC.1 rfl) (hC.2.1 _ _ rfl) (by decide) (hC.2.2 _ _ _ rfl) dX0_row_25 ?_
            refine x_iload_n h dX0_row_28 rfl ?_
            refine x_iload_n h dX0_row_29 rfl ?_
            refine x_iload_n h dX0_row_30 rfl ?_
            refine x_callSErm h (As := [.int _, .int _]) (k0_newRow1 l G n _ _ hC _ _ zn hz) m_X0_492 dX0_row_31 ⟨by decide, by decide⟩ ⟨by omega, by omega⟩ rfl (Nat.le_of_ble_eq_true rfl) ?_
            refine x_nmW (fun n31 Ty31 J31 F31 en31 eT31 eJ31 eF31 => ?_)
            refine x_nmL (fun M31 eM31 => ?_)
            have hl31 : n < n31 := by rw [en31]; exact Nat.lt_add_of_pos_right (by decide)
            have ht31 : Ty31 n = some (.inl 25) := by rw [eT31, nwT_ap, if_neg (by omega), nwT_ap, if_pos rfl]
            have hta31 : Ty31 (n + 1) = some (.inr (2, zn)) := by rw [eT31, nwT_ap, if_pos rfl]
            have hg31 : grw n n31 Ty Ty31 := by rw [en31, eT31]; exact grw.nw.tr grw.nw
            have hF31 : ∀ c k : Nat, c < n → F31 c k = F c k := fun c k z => by rw [eF31, up2_i _ _ (by omega), nw1_r _ _ _ (by omega)]
            have hC31 : WC n31 Ty31 F31 := hC.gw hg31 hF31
            refine x_aast h (mlt hC31.1 rfl) (hC31.2.1 _ _ rfl) (by decide) rfl hl31 ht31 rfl (Or.inr q2281) (vp_in_nI hs9 (by decide)) (s9) (nI_clamp (by omega)) dX0_row_34 (fun Q34 eQ34 => ?_)
            have hQ34 : WC n31 Ty31 Q34 := by rw [eQ34]; exact hC31.up (by omega)
            refine x_goto h 43 dX0_row_35 rfl ?_
            refine x_iconst h dX0_row_43 (1) rfl ?_
            refine x_wid h (by decide) (by decide) ?_
            exact x_iret h dX0_row_44 rfl (by rw [hm, hmL]; exact ⟨rfl, hg31, hT.row (t := 1) hs9 (by decide) hz hg31 (by omega) (fun c k z => by rw [eJ31, nw1_r _ _ _ (by omega), nw1_r _ _ _ (by omega)]) (fun k => by rw [eJ31, nw1_ap, if_pos rfl]) (fun c k z => by rw [eM31, nw1_r _ _ _ (by omega)]) (fun k => by rw [eM31, nw1_ap, if_pos rfl]) (fun c k z y => by rw [eQ34, up2_n _ _ (by omega)]; exact hF31 c k z) (by rw [eQ34, up2_s]) (by rw [eQ34, up2_i _ _ (by have := hC.1; omega), eF31, up2_s]) ht31 hta31⟩)
        · skip
          refine x_aload_n h dX0_row_24 rfl ?_
          rcases Classical.em (v < 0) with hneg | hneg
          · skip
            have hm : m_row J (nI s9) 2 v = (-14, J) := by unfold m_row; rw [if_neg c4, if_neg c13, if_neg (Int32.not_lt.mpr c19), if_pos hneg]
            have hmL : m_rowL M (nI s9) 2 v = M := by unfold m_rowL; rw [if_neg c4, if_neg c13, if_neg (Int32.not_lt.mpr c19), if_pos hneg]
            refine x_getr h (j := 33) g_X0_32 (mlt hC.1 rfl) (hC.2.1 _ _ rfl) (by decide) (hC.2.2 _ _ _ rfl) dX0_row_25 ?_
            refine x_iload_n h dX0_row_28 rfl ?_
            refine x_iload_n h dX0_row_29 rfl ?_
            refine x_iload_n h dX0_row_30 rfl ?_
            refine x_callSX h (As := [.int _, .int _]) (k0_newRow2Z l hl G n _ _ hC _ _ v hneg) m_X0_492 dX0_row_31 ⟨by decide, by decide⟩ ⟨by omega, by omega⟩ rfl (Nat.le_of_ble_eq_true rfl) (fun E31 m31 T31 J31 L31 F31 hpx => ?_) (fun _ _ _ _ _ _ hp => absurd hp id)
            obtain ⟨rfl, hg31, hI31, rfl, hF31⟩ := hpx
            refine XN.catch h hTb (pre := []) (x := ⟨24, 35, 38, 496⟩) (suf := _) rfl (fun z hz => absurd hz List.not_mem_nil) (by decide) (by decide) q1462 q1474 (fun a9 => ?_)
            refine x_astore h dX0_row_38 (by decide) [some (.ref (xb G + 0)), some (.int (nI s9)), some (.int 2), some (.int v), some (.ref a9)] rfl ?_
            refine x_bipush h dX0_row_40 (-14) rfl ?_
            refine x_wid h (by decide) (by decide) ?_
            exact x_iret h dX0_row_42 rfl (by rw [hm, hmL]; exact ⟨rfl, hg31, hT.gw hg31 hI31 hF31⟩)
          · skip
            obtain ⟨zn, hz60, rfl⟩ := row_z hneg c19
            have hz : zn ≤ 60 := hz60
            have hm : m_row J (nI s9) 2 (nI zn) = (1, up2 (up2 J 90 s9 (nI 2)) 91 s9 (nI zn)) := by unfold m_row; rw [if_neg c4, if_neg c13, if_neg (Int32.not_lt.mpr c19), if_neg hneg, ix_n (by omega)]; rfl
            have hmL : m_rowL M (nI s9) 2 (nI zn) = fillL M (60 * s9) 60 := by unfold m_rowL; rw [if_neg c4, if_neg c13, if_neg (Int32.not_lt.mpr c19), if_neg hneg, ix_n (by omega)]
            refine x_getr h (j := 33) g_X0_32 (mlt hC.1 rfl) (hC.2.1 _ _ rfl) (by decide) (hC.2.2 _ _ _ rfl) dX0_row_25 ?_
            refine x_iload_n h dX0_row_28 rfl ?_
            refine x_iload_n h dX0_row_29 rfl ?_
            refine x_iload_n h dX0_row_30 rfl ?_
            refine x_callSErm h (As := [.int _, .int _]) (k0_newRow2 l G n _ _ hC _ _ zn hz) m_X0_492 dX0_row_31 ⟨by decide, by decide⟩ ⟨by omega, by omega⟩ rfl (Nat.le_of_ble_eq_true rfl) ?_
            refine x_nmW (fun n31 Ty31 J31 F31 en31 eT31 eJ31 eF31 => ?_)
            refine x_nmL (fun M31 eM31 => ?_)
            have hl31 : n < n31 := by rw [en31]; exact Nat.lt_add_of_pos_right (by decide)
            have ht31 : Ty31 n = some (.inl 26) := by rw [eT31, nwT_ap, if_neg (by omega), nwT_ap, if_pos rfl]
            have hta31 : Ty31 (n + 1) = some (.inr (0, zn)) := by rw [eT31, nwT_ap, if_pos rfl]
            have hg31 : grw n n31 Ty Ty31 := by rw [en31, eT31]; exact grw.nw.tr grw.nw
            have hF31 : ∀ c k : Nat, c < n → F31 c k = F c k := fun c k z => by rw [eF31, up2_i _ _ (by omega), nw1_r _ _ _ (by omega)]
            have hC31 : WC n31 Ty31 F31 := hC.gw hg31 hF31
            refine x_aast h (mlt hC31.1 rfl) (hC31.2.1 _ _ rfl) (by decide) rfl hl31 ht31 rfl (Or.inr q2282) (vp_in_nI hs9 (by decide)) (s9) (nI_clamp (by omega)) dX0_row_34 (fun Q34 eQ34 => ?_)
            have hQ34 : WC n31 Ty31 Q34 := by rw [eQ34]; exact hC31.up (by omega)
            refine x_goto h 43 dX0_row_35 rfl ?_
            refine x_iconst h dX0_row_43 (1) rfl ?_
            refine x_wid h (by decide) (by decide) ?_
            exact x_iret h dX0_row_44 rfl (by rw [hm, hmL]; exact ⟨rfl, hg31, hT.row (t := 2) hs9 (by decide) hz hg31 (by omega) (fun c k z => by rw [eJ31, nw1_r _ _ _ (by omega), nw1_r _ _ _ (by omega)]) (fun k => by rw [eJ31, nw1_ap, if_pos rfl]) (fun c k z => by rw [eM31, nw1_r _ _ _ (by omega)]) (fun k => by rw [eM31, nw1_ap, if_pos rfl]) (fun c k z y => by rw [eQ34, up2_n _ _ (by omega)]; exact hF31 c k z) (by rw [eQ34, up2_s]) (by rw [eQ34, up2_i _ _ (by have := hC.1; omega), eF31, up2_s]) ht31 hta31⟩)
        · skip
          refine x_aload_n h dX0_row_24 rfl ?_
          rcases Classical.em (v < 0) with hneg | hneg
          · skip
            have hm : m_row J (nI s9) 3 v = (-14, J) := by unfold m_row; rw [if_neg c4, if_neg c13, if_neg (Int32.not_lt.mpr c19), if_pos hneg]
            have hmL : m_rowL M (nI s9) 3 v = M := by unfold m_rowL; rw [if_neg c4, if_neg c13, if_neg (Int32.not_lt.mpr c19), if_pos hneg]
            refine x_getr h (j := 33) g_X0_32 (mlt hC.1 rfl) (hC.2.1 _ _ rfl) (by decide) (hC.2.2 _ _ _ rfl) dX0_row_25 ?_
            refine x_iload_n h dX0_row_28 rfl ?_
            refine x_iload_n h dX0_row_29 rfl ?_
            refine x_iload_n h dX0_row_30 rfl ?_
            refine x_callSX h (As := [.int _, .int _]) (k0_newRow3Z l hl G n _ _ hC _ _ v hneg) m_X0_492 dX0_row_31 ⟨by decide, by decide⟩ ⟨by omega, by omega⟩ rfl (Nat.le_of_ble_eq_true rfl) (fun E31 m31 T31 J31 L31 F31 hpx => ?_) (fun _ _ _ _ _ _ hp => absurd hp id)
            obtain ⟨rfl, hg31, hI31, rfl, hF31⟩ := hpx
            refine XN.catch h hTb (pre := []) (x := ⟨24, 35, 38, 496⟩) (suf := _) rfl (fun z hz => absurd hz List.not_mem_nil) (by decide) (by decide) q1462 q1474 (fun a9 => ?_)
            refine x_astore h dX0_row_38 (by decide) [some (.ref (xb G + 0)), some (.int (nI s9)), some (.int 3), some (.int v), some (.ref a9)] rfl ?_
            refine x_bipush h dX0_row_40 (-14) rfl ?_
            refine x_wid h (by decide) (by decide) ?_
            exact x_iret h dX0_row_42 rfl (by rw [hm, hmL]; exact ⟨rfl, hg31, hT.gw hg31 hI31 hF31⟩)
          · skip
            obtain ⟨zn, hz60, rfl⟩ := row_z hneg c19
            have hz : zn ≤ 60 := hz60
            have hm : m_row J (nI s9) 3 (nI zn) = (1, up2 (up2 J 90 s9 (nI 3)) 91 s9 (nI zn)) := by unfold m_row; rw [if_neg c4, if_neg c13, if_neg (Int32.not_lt.mpr c19), if_neg hneg, ix_n (by omega)]; rfl
            have hmL : m_rowL M (nI s9) 3 (nI zn) = fillL M (60 * s9) 60 := by unfold m_rowL; rw [if_neg c4, if_neg c13, if_neg (Int32.not_lt.mpr c19), if_neg hneg, ix_n (by omega)]
            refine x_getr h (j := 33) g_X0_32 (mlt hC.1 rfl) (hC.2.1 _ _ rfl) (by decide) (hC.2.2 _ _ _ rfl) dX0_row_25 ?_
            refine x_iload_n h dX0_row_28 rfl ?_
            refine x_iload_n h dX0_row_29 rfl ?_
            refine x_iload_n h dX0_row_30 rfl ?_
            refine x_callSErm h (As := [.int _, .int _]) (k0_newRow3 l G n _ _ hC _ _ zn hz) m_X0_492 dX0_row_31 ⟨by decide, by decide⟩ ⟨by omega, by omega⟩ rfl (Nat.le_of_ble_eq_true rfl) ?_
            refine x_nmW (fun n31 Ty31 J31 F31 en31 eT31 eJ31 eF31 => ?_)
            refine x_nmL (fun M31 eM31 => ?_)
            have hl31 : n < n31 := by rw [en31]; exact Nat.lt_add_of_pos_right (by decide)
            have ht31 : Ty31 n = some (.inl 27) := by rw [eT31, nwT_ap, if_neg (by omega), nwT_ap, if_pos rfl]
            have hta31 : Ty31 (n + 1) = some (.inr (4, zn)) := by rw [eT31, nwT_ap, if_pos rfl]
            have hg31 : grw n n31 Ty Ty31 := by rw [en31, eT31]; exact grw.nw.tr grw.nw
            have hF31 : ∀ c k : Nat, c < n → F31 c k = F c k := fun c k z => by rw [eF31, up2_i _ _ (by omega), nw1_r _ _ _ (by omega)]
            have hC31 : WC n31 Ty31 F31 := hC.gw hg31 hF31
            refine x_aast h (mlt hC31.1 rfl) (hC31.2.1 _ _ rfl) (by decide) rfl hl31 ht31 rfl (Or.inr q2283) (vp_in_nI hs9 (by decide)) (s9) (nI_clamp (by omega)) dX0_row_34 (fun Q34 eQ34 => ?_)
            have hQ34 : WC n31 Ty31 Q34 := by rw [eQ34]; exact hC31.up (by omega)
            refine x_goto h 43 dX0_row_35 rfl ?_
            refine x_iconst h dX0_row_43 (1) rfl ?_
            refine x_wid h (by decide) (by decide) ?_
            exact x_iret h dX0_row_44 rfl (by rw [hm, hmL]; exact ⟨rfl, hg31, hT.row (t := 3) hs9 (by decide) hz hg31 (by omega) (fun c k z => by rw [eJ31, nw1_r _ _ _ (by omega), nw1_r _ _ _ (by omega)]) (fun k => by rw [eJ31, nw1_ap, if_pos rfl]) (fun c k z => by rw [eM31, nw1_r _ _ _ (by omega)]) (fun k => by rw [eM31, nw1_ap, if_pos rfl]) (fun c k z y => by rw [eQ34, up2_n _ _ (by omega)]; exact hF31 c k z) (by rw [eQ34, up2_s]) (by rw [eQ34, up2_i _ _ (by have := hC.1; omega), eF31, up2_s]) ht31 hta31⟩)
        · skip
          refine x_aload_n h dX0_row_24 rfl ?_
          rcases Classical.em (v < 0) with hneg | hneg
          · skip
            have hm : m_row J (nI s9) 4 v = (-14, J) := by unfold m_row; rw [if_neg c4, if_neg c13, if_neg (Int32.not_lt.mpr c19), if_pos hneg]
            have hmL : m_rowL M (nI s9) 4 v = M := by unfold m_rowL; rw [if_neg c4, if_neg c13, if_neg (Int32.not_lt.mpr c19), if_pos hneg]
            refine x_getr h (j := 33) g_X0_32 (mlt hC.1 rfl) (hC.2.1 _ _ rfl) (by decide) (hC.2.2 _ _ _ rfl) dX0_row_25 ?_
            refine x_iload_n h dX0_row_28 rfl ?_
            refine x_iload_n h dX0_row_29 rfl ?_
            refine x_iload_n h dX0_row_30 rfl ?_
            refine x_callSX h (As := [.int _, .int _]) (k0_newRow4Z l hl G n _ _ hC _ _ v hneg) m_X0_492 dX0_row_31 ⟨by decide, by decide⟩ ⟨by omega, by omega⟩ rfl (Nat.le_of_ble_eq_true rfl) (fun E31 m31 T31 J31 L31 F31 hpx => ?_) (fun _ _ _ _ _ _ hp => absurd hp id)
            obtain ⟨rfl, hg31, hI31, rfl, hF31⟩ := hpx
            refine XN.catch h hTb (pre := []) (x := ⟨24, 35, 38, 496⟩) (suf := _) rfl (fun z hz => absurd hz List.not_mem_nil) (by decide) (by decide) q1462 q1474 (fun a9 => ?_)
            refine x_astore h dX0_row_38 (by decide) [some (.ref (xb G + 0)), some (.int (nI s9)), some (.int 4), some (.int v), some (.ref a9)] rfl ?_
            refine x_bipush h dX0_row_40 (-14) rfl ?_
            refine x_wid h (by decide) (by decide) ?_
            exact x_iret h dX0_row_42 rfl (by rw [hm, hmL]; exact ⟨rfl, hg31, hT.gw hg31 hI31 hF31⟩)
          · skip
            obtain ⟨zn, hz60, rfl⟩ := row_z hneg c19
            have hz : zn ≤ 60 := hz60
            have hm : m_row J (nI s9) 4 (nI zn) = (1, up2 (up2 J 90 s9 (nI 4)) 91 s9 (nI zn)) := by unfold m_row; rw [if_neg c4, if_neg c13, if_neg (Int32.not_lt.mpr c19), if_neg hneg, ix_n (by omega)]; rfl
            have hmL : m_rowL M (nI s9) 4 (nI zn) = fillL M (60 * s9) 60 := by unfold m_rowL; rw [if_neg c4, if_neg c13, if_neg (Int32.not_lt.mpr c19), if_neg hneg, ix_n (by omega)]
            refine x_getr h (j := 33) g_X0_32 (mlt hC.1 rfl) (hC.2.1 _ _ rfl) (by decide) (hC.2.2 _ _ _ rfl) dX0_row_25 ?_
            refine x_iload_n h dX0_row_28 rfl ?_
            refine x_iload_n h dX0_row_29 rfl ?_
            refine x_iload_n h dX0_row_30 rfl ?_
            refine x_callSErm h (As := [.int _, .int _]) (k0_newRow4 l G n _ _ hC _ _ zn hz) m_X0_492 dX0_row_31 ⟨by decide, by decide⟩ ⟨by omega, by omega⟩ rfl (Nat.le_of_ble_eq_true rfl) ?_
            refine x_nmW (fun n31 Ty31 J31 F31 en31 eT31 eJ31 eF31 => ?_)
            refine x_nmL (fun M31 eM31 => ?_)
            have hl31 : n < n31 := by rw [en31]; exact Nat.lt_add_of_pos_right (by decide)
            have ht31 : Ty31 n = some (.inl 28) := by rw [eT31, nwT_ap, if_neg (by omega), nwT_ap, if_pos rfl]
            have hta31 : Ty31 (n + 1) = some (.inr (3, zn)) := by rw [eT31, nwT_ap, if_pos rfl]
            have hg31 : grw n n31 Ty Ty31 := by rw [en31, eT31]; exact grw.nw.tr grw.nw
            have hF31 : ∀ c k : Nat, c < n → F31 c k = F c k := fun c k z => by rw [eF31, up2_i _ _ (by omega), nw1_r _ _ _ (by omega)]
            have hC31 : WC n31 Ty31 F31 := hC.gw hg31 hF31
            refine x_aast h (mlt hC31.1 rfl) (hC31.2.1 _ _ rfl) (by decide) rfl hl31 ht31 rfl (Or.inr q2284) (vp_in_nI hs9 (by decide)) (s9) (nI_clamp (by omega)) dX0_row_34 (fun Q34 eQ34 => ?_)
            have hQ34 : WC n31 Ty31 Q34 := by rw [eQ34]; exact hC31.up (by omega)
            refine x_goto h 43 dX0_row_35 rfl ?_
            refine x_iconst h dX0_row_43 (1) rfl ?_
            refine x_wid h (by decide) (by decide) ?_
            exact x_iret h dX0_row_44 rfl (by rw [hm, hmL]; exact ⟨rfl, hg31, hT.row (t := 4) hs9 (by decide) hz hg31 (by omega) (fun c k z => by rw [eJ31, nw1_r _ _ _ (by omega), nw1_r _ _ _ (by omega)]) (fun k => by rw [eJ31, nw1_ap, if_pos rfl]) (fun c k z => by rw [eM31, nw1_r _ _ _ (by omega)]) (fun k => by rw [eM31, nw1_ap, if_pos rfl]) (fun c k z y => by rw [eQ34, up2_n _ _ (by omega)]; exact hF31 c k z) (by rw [eQ34, up2_s]) (by rw [eQ34, up2_i _ _ (by have := hC.1; omega), eF31, up2_s]) ht31 hta31⟩)
      · skip
        have hm : m_row J (nI s9) t v = (-1, J) := by unfold m_row; rw [if_neg c4, if_neg c13, if_pos (Int32.not_le.mp c19)]
        have hmL : m_rowL M (nI s9) t v = M := by unfold m_rowL; rw [if_neg c4, if_neg c13, if_pos (Int32.not_le.mp c19)]
        refine x_iconst h dX0_row_22 (-1) rfl ?_
        refine x_wid h (by decide) (by decide) ?_
        exact x_iret h dX0_row_23 rfl (by rw [hm, hmL]; exact ⟨rfl, grw.rf, hT⟩)
