/-! WALKS OF THE COMPONENT: rows -/
theorem g_X25_7 : xfg RX25 7 25 0 := ⟨_, _, _, rfl, by decide, in_X25, q1496, rfl⟩
theorem g_X26_7 : xfg RX26 7 26 0 := ⟨_, _, _, rfl, by decide, in_X26, q1507, rfl⟩
theorem g_X27_7 : xfg RX27 7 27 0 := ⟨_, _, _, rfl, by decide, in_X27, q1517, rfl⟩
theorem g_X28_7 : xfg RX28 7 28 0 := ⟨_, _, _, rfl, by decide, in_X28, q1528, rfl⟩
def pxE (E0 : String) (n : Nat) (Ty : Nat → xs_T) (I : xI_T) (L : xL_T) (F : xF_T) : xPX := fun E n' Ty' I' L' F' => E = E0 ∧ n ≤ n' ∧ Ty' = xtr n Ty ∧ I' = I ∧ L' = L ∧ F' = F
def pF : xP_T := fun _ _ _ _ _ _ => False
set_option maxHeartbeats 4000000 in
theorem k24_atZ (l : Launch) (hl : l.stackTraces = false) (G : xG_T) (n : Nat) (Ty : Nat → xs_T) (F : xF_T) (hC : WC n Ty F) (I : xI_T) (L : xL_T) (q a z : Nat) (i : Int32) (hq : q < n) (hT : Ty q = some (.inl 24)) (hf : F q 0 = some a) (ha : a < n) (hTa : Ty a = some (.inr (1, z))) (hz : z ≤ 60) (hi : ¬ vp_in i z) : CgX l (201) 3 1010 yX24_at cX24_at 2 (some .long) G idC [.ref (xb G + q), .int i] n Ty I L F (pF) (pxE "java/lang/ArrayIndexOutOfBoundsException" n Ty I L F) := by
  refine CgX.intro (cls := RX24) (pad := 0) (lv := [some (.ref (xb G + q)), some (.int i)]) rfl (by decide) (Nat.le_of_ble_eq_true rfl) rfl (fun Θ h hX => ?_)
  refine x_aload_n h dX24_at_0 rfl ?_
  refine x_getr h (j := a) g_X24_7 hq hT (by decide) hf dX24_at_1 ?_
  refine x_iload_n h dX24_at_4 rfl ?_
  refine x_baldZ h hl ha hTa (by omega) hi dX24_at_5 (by decide) ⟨by decide, by decide⟩ (Nat.le_of_ble_eq_true rfl) (fun n9 hn9 => x_out h hX ⟨rfl, hn9, rfl, rfl, rfl, rfl⟩ (by decide) (by decide))
set_option maxHeartbeats 4000000 in
theorem k24_put (l : Launch) (G : xG_T) (n : Nat) (Ty : Nat → xs_T) (F : xF_T) (hC : WC n Ty F) (I : xI_T) (L : xL_T) (q a z : Nat) (i : Int32) (v : Int64) (hq : q < n) (hT : Ty q = some (.inl 24)) (hf : F q 0 = some a) (ha : a < n) (hTa : Ty a = some (.inr (1, z))) (hi : vp_in i z) : Cg l (0) 0 0 yX24_put cX24_put 4 (some .boolean) G idC [.ref (xb G + q), .int i, .long v] n Ty I L F (xpE (some (.int 1)) n Ty (up2 I a (ix i) (vp_nar .byte v.toInt32.toInt8.toInt32)) (L) F) := by
  refine Cg.intro (cls := RX24) (pad := 0) (lv := [some (.ref (xb G + q)), some (.int i), some (.long v), none]) rfl (by decide) (Nat.le_of_ble_eq_true rfl) rfl (fun Θ h => ?_)
  refine x_aload_n h dX24_put_0 rfl ?_
  refine x_getr h (j := a) g_X24_7 hq hT (by decide) hf dX24_put_1 ?_
  refine x_iload_n h dX24_put_4 rfl ?_
  refine x_lload_n h dX24_put_5 rfl ?_
  refine x_l2i h dX24_put_6 ?_
  refine x_i2b h dX24_put_7 ?_
  refine x_bast h ha hTa hi _ rfl dX24_put_8 (fun J8 eJ8 => ?_)
  refine x_iconst h dX24_put_9 (1) rfl ?_
  exact x_zret h dX24_put_10 rfl rfl (xpE.to rfl eJ8 rfl rfl)
set_option maxHeartbeats 4000000 in
theorem k24_putZ (l : Launch) (hl : l.stackTraces = false) (G : xG_T) (n : Nat) (Ty : Nat → xs_T) (F : xF_T) (hC : WC n Ty F) (I : xI_T) (L : xL_T) (q a z : Nat) (i : Int32) (v : Int64) (hq : q < n) (hT : Ty q = some (.inl 24)) (hf : F q 0 = some a) (ha : a < n) (hTa : Ty a = some (.inr (1, z))) (hz : z ≤ 60) (hi : ¬ vp_in i z) : CgX l (201) 3 1010 yX24_put cX24_put 4 (some .boolean) G idC [.ref (xb G + q), .int i, .long v] n Ty I L F (pF) (pxE "java/lang/ArrayIndexOutOfBoundsException" n Ty I L F) := by
  refine CgX.intro (cls := RX24) (pad := 0) (lv := [some (.ref (xb G + q)), some (.int i), some (.long v), none]) rfl (by decide) (Nat.le_of_ble_eq_true rfl) rfl (fun Θ h hX => ?_)
  refine x_aload_n h dX24_put_0 rfl ?_
  refine x_getr h (j := a) g_X24_7 hq hT (by decide) hf dX24_put_1 ?_
  refine x_iload_n h dX24_put_4 rfl ?_
  refine x_lload_n h dX24_put_5 rfl ?_
  refine x_l2i h dX24_put_6 ?_
  refine x_i2b h dX24_put_7 ?_
  refine x_bastZ h hl ha hTa (by omega) hi dX24_put_8 (by decide) ⟨by decide, by decide⟩ (Nat.le_of_ble_eq_true rfl) (fun n9 hn9 => x_out h hX ⟨rfl, hn9, rfl, rfl, rfl, rfl⟩ (by decide) (by decide))
set_option maxHeartbeats 4000000 in
theorem k25_at (l : Launch) (G : xG_T) (n : Nat) (Ty : Nat → xs_T) (F : xF_T) (hC : WC n Ty F) (I : xI_T) (L : xL_T) (q a z : Nat) (i : Int32) (hq : q < n) (hT : Ty q = some (.inl 25)) (hf : F q 0 = some a) (ha : a < n) (hTa : Ty a = some (.inr (2, z))) (hi : vp_in i z) : CE l (0) yX25_at cX25_at 2 (some .long) G n Ty F [.ref (xb G + q), .int i] I L (some (.long ((I a (ix i)).toInt64))) (I) := by
  refine Cg.intro (cls := RX25) (pad := 0) (lv := [some (.ref (xb G + q)), some (.int i)]) rfl (by decide) (Nat.le_of_ble_eq_true rfl) rfl (fun Θ h => ?_)
  refine x_aload_n h dX25_at_0 rfl ?_
  refine x_getr h (j := a) g_X25_7 hq hT (by decide) hf dX25_at_1 ?_
  refine x_iload_n h dX25_at_4 rfl ?_
  refine x_sald h ha hTa hi _ rfl dX25_at_5 ?_
  refine x_i2l h dX25_at_6 ?_
  exact x_lret h dX25_at_7 rfl (xpE.to rfl rfl rfl rfl)
set_option maxHeartbeats 4000000 in
theorem k25_atZ (l : Launch) (hl : l.stackTraces = false) (G : xG_T) (n : Nat) (Ty : Nat → xs_T) (F : xF_T) (hC : WC n Ty F) (I : xI_T) (L : xL_T) (q a z : Nat) (i : Int32) (hq : q < n) (hT : Ty q = some (.inl 25)) (hf : F q 0 = some a) (ha : a < n) (hTa : Ty a = some (.inr (2, z))) (hz : z ≤ 60) (hi : ¬ vp_in i z) : CgX l (201) 3 1010 yX25_at cX25_at 2 (some .long) G idC [.ref (xb G + q), .int i] n Ty I L F (pF) (pxE "java/lang/ArrayIndexOutOfBoundsException" n Ty I L F) := by
  refine CgX.intro (cls := RX25) (pad := 0) (lv := [some (.ref (xb G + q)), some (.int i)]) rfl (by decide) (Nat.le_of_ble_eq_true rfl) rfl (fun Θ h hX => ?_)
  refine x_aload_n h dX25_at_0 rfl ?_
  refine x_getr h (j := a) g_X25_7 hq hT (by decide) hf dX25_at_1 ?_
  refine x_iload_n h dX25_at_4 rfl ?_
  refine x_saldZ h hl ha hTa (by omega) hi dX25_at_5 (by decide) ⟨by decide, by decide⟩ (Nat.le_of_ble_eq_true rfl) (fun n9 hn9 => x_out h hX ⟨rfl, hn9, rfl, rfl, rfl, rfl⟩ (by decide) (by decide))
set_option maxHeartbeats 4000000 in
theorem k25_put (l : Launch) (G : xG_T) (n : Nat) (Ty : Nat → xs_T) (F : xF_T) (hC : WC n Ty F) (I : xI_T) (L : xL_T) (q a z : Nat) (i : Int32) (v : Int64) (hq : q < n) (hT : Ty q = some (.inl 25)) (hf : F q 0 = some a) (ha : a < n) (hTa : Ty a = some (.inr (2, z))) (hi : vp_in i z) : Cg l (0) 0 0 yX25_put cX25_put 4 (some .boolean) G idC [.ref (xb G + q), .int i, .long v] n Ty I L F (xpE (some (.int 1)) n Ty (up2 I a (ix i) (vp_nar .short v.toInt32.toInt16.toInt32)) (L) F) := by
  refine Cg.intro (cls := RX25) (pad := 0) (lv := [some (.ref (xb G + q)), some (.int i), some (.long v), none]) rfl (by decide) (Nat.le_of_ble_eq_true rfl) rfl (fun Θ h => ?_)
  refine x_aload_n h dX25_put_0 rfl ?_
  refine x_getr h (j := a) g_X25_7 hq hT (by decide) hf dX25_put_1 ?_
  refine x_iload_n h dX25_put_4 rfl ?_
  refine x_lload_n h dX25_put_5 rfl ?_
  refine x_l2i h dX25_put_6 ?_
  refine x_i2s h dX25_put_7 ?_
  refine x_sast h ha hTa hi _ rfl dX25_put_8 (fun J8 eJ8 => ?_)
  refine x_iconst h dX25_put_9 (1) rfl ?_
  exact x_zret h dX25_put_10 rfl rfl (xpE.to rfl eJ8 rfl rfl)
set_option maxHeartbeats 4000000 in
theorem k25_putZ (l : Launch) (hl : l.stackTraces = false) (G : xG_T) (n : Nat) (Ty : Nat → xs_T) (F : xF_T) (hC : WC n Ty F) (I : xI_T) (L : xL_T) (q a z : Nat) (i : Int32) (v : Int64) (hq : q < n) (hT : Ty q = some (.inl 25)) (hf : F q 0 = some a) (ha : a < n) (hTa : Ty a = some (.inr (2, z))) (hz : z ≤ 60) (hi : ¬ vp_in i z) : CgX l (201) 3 1010 yX25_put cX25_put 4 (some .boolean) G idC [.ref (xb G + q), .int i, .long v] n Ty I L F (pF) (pxE "java/lang/ArrayIndexOutOfBoundsException" n Ty I L F) := by
  refine CgX.intro (cls := RX25) (pad := 0) (lv := [some (.ref (xb G + q)), some (.int i), some (.long v), none]) rfl (by decide) (Nat.le_of_ble_eq_true rfl) rfl (fun Θ h hX => ?_)
  refine x_aload_n h dX25_put_0 rfl ?_
  refine x_getr h (j := a) g_X25_7 hq hT (by decide) hf dX25_put_1 ?_
  refine x_iload_n h dX25_put_4 rfl ?_
  refine x_lload_n h dX25_put_5 rfl ?_
  refine x_l2i h dX25_put_6 ?_
  refine x_i2s h dX25_put_7 ?_
  refine x_sastZ h hl ha hTa (by omega) hi dX25_put_8 (by decide) ⟨by decide, by decide⟩ (Nat.le_of_ble_eq_true rfl) (fun n9 hn9 => x_out h hX ⟨rfl, hn9, rfl, rfl, rfl, rfl⟩ (by decide) (by decide))
set_option maxHeartbeats 4000000 in
theorem k26_at (l : Launch) (G : xG_T) (n : Nat) (Ty : Nat → xs_T) (F : xF_T) (hC : WC n Ty F) (I : xI_T) (L : xL_T) (q a z : Nat) (i : Int32) (hq : q < n) (hT : Ty q = some (.inl 26)) (hf : F q 0 = some a) (ha : a < n) (hTa : Ty a = some (.inr (0, z))) (hi : vp_in i z) : CE l (0) yX26_at cX26_at 2 (some .long) G n Ty F [.ref (xb G + q), .int i] I L (some (.long ((I a (ix i)).toInt64))) (I) := by
  refine Cg.intro (cls := RX26) (pad := 0) (lv := [some (.ref (xb G + q)), some (.int i)]) rfl (by decide) (Nat.le_of_ble_eq_true rfl) rfl (fun Θ h => ?_)
  refine x_aload_n h dX26_at_0 rfl ?_
  refine x_getr h (j := a) g_X26_7 hq hT (by decide) hf dX26_at_1 ?_
  refine x_iload_n h dX26_at_4 rfl ?_
  refine x_iald h ha hTa hi _ rfl dX26_at_5 ?_
  refine x_i2l h dX26_at_6 ?_
  exact x_lret h dX26_at_7 rfl (xpE.to rfl rfl rfl rfl)
set_option maxHeartbeats 4000000 in
theorem k26_atZ (l : Launch) (hl : l.stackTraces = false) (G : xG_T) (n : Nat) (Ty : Nat → xs_T) (F : xF_T) (hC : WC n Ty F) (I : xI_T) (L : xL_T) (q a z : Nat) (i : Int32) (hq : q < n) (hT : Ty q = some (.inl 26)) (hf : F q 0 = some a) (ha : a < n) (hTa : Ty a = some (.inr (0, z))) (hz : z ≤ 60) (hi : ¬ vp_in i z) : CgX l (201) 3 1010 yX26_at cX26_at 2 (some .long) G idC [.ref (xb G + q), .int i] n Ty I L F (pF) (pxE "java/lang/ArrayIndexOutOfBoundsException" n Ty I L F) := by
  refine CgX.intro (cls := RX26) (pad := 0) (lv := [some (.ref (xb G + q)), some (.int i)]) rfl (by decide) (Nat.le_of_ble_eq_true rfl) rfl (fun Θ h hX => ?_)
  refine x_aload_n h dX26_at_0 rfl ?_
  refine x_getr h (j := a) g_X26_7 hq hT (by decide) hf dX26_at_1 ?_
  refine x_iload_n h dX26_at_4 rfl ?_
  refine x_ialdZ h hl ha hTa (by omega) hi dX26_at_5 (by decide) ⟨by decide, by decide⟩ (Nat.le_of_ble_eq_true rfl) (fun n9 hn9 => x_out h hX ⟨rfl, hn9, rfl, rfl, rfl, rfl⟩ (by decide) (by decide))
set_option maxHeartbeats 4000000 in
theorem k26_put (l : Launch) (G : xG_T) (n : Nat) (Ty : Nat → xs_T) (F : xF_T) (hC : WC n Ty F) (I : xI_T) (L : xL_T) (q a z : Nat) (i : Int32) (v : Int64) (hq : q < n) (hT : Ty q = some (.inl 26)) (hf : F q 0 = some a) (ha : a < n) (hTa : Ty a = some (.inr (0, z))) (hi : vp_in i z) : Cg l (0) 0 0 yX26_put cX26_put 4 (some .boolean) G idC [.ref (xb G + q), .int i, .long v] n Ty I L F (xpE (some (.int 1)) n Ty (up2 I a (ix i) v.toInt32) (L) F) := by
  refine Cg.intro (cls := RX26) (pad := 0) (lv := [some (.ref (xb G + q)), some (.int i), some (.long v), none]) rfl (by decide) (Nat.le_of_ble_eq_true rfl) rfl (fun Θ h => ?_)
  refine x_aload_n h dX26_put_0 rfl ?_
  refine x_getr h (j := a) g_X26_7 hq hT (by decide) hf dX26_put_1 ?_
  refine x_iload_n h dX26_put_4 rfl ?_
  refine x_lload_n h dX26_put_5 rfl ?_
  refine x_l2i h dX26_put_6 ?_
  refine x_iast h ha hTa hi _ rfl dX26_put_7 (fun J7 eJ7 => ?_)
  refine x_iconst h dX26_put_8 (1) rfl ?_
  exact x_zret h dX26_put_9 rfl rfl (xpE.to rfl eJ7 rfl rfl)
set_option maxHeartbeats 4000000 in
theorem k26_putZ (l : Launch) (hl : l.stackTraces = false) (G : xG_T) (n : Nat) (Ty : Nat → xs_T) (F : xF_T) (hC : WC n Ty F) (I : xI_T) (L : xL_T) (q a z : Nat) (i : Int32) (v : Int64) (hq : q < n) (hT : Ty q = some (.inl 26)) (hf : F q 0 = some a) (ha : a < n) (hTa : Ty a = some (.inr (0, z))) (hz : z ≤ 60) (hi : ¬ vp_in i z) : CgX l (201) 3 1010 yX26_put cX26_put 4 (some .boolean) G idC [.ref (xb G + q), .int i, .long v] n Ty I L F (pF) (pxE "java/lang/ArrayIndexOutOfBoundsException" n Ty I L F) := by
  refine CgX.intro (cls := RX26) (pad := 0) (lv := [some (.ref (xb G + q)), some (.int i), some (.long v), none]) rfl (by decide) (Nat.le_of_ble_eq_true rfl) rfl (fun Θ h hX => ?_)
  refine x_aload_n h dX26_put_0 rfl ?_
  refine x_getr h (j := a) g_X26_7 hq hT (by decide) hf dX26_put_1 ?_
  refine x_iload_n h dX26_put_4 rfl ?_
  refine x_lload_n h dX26_put_5 rfl ?_
  refine x_l2i h dX26_put_6 ?_
  refine x_iastZ h hl ha hTa (by omega) hi dX26_put_7 (by decide) ⟨by decide, by decide⟩ (Nat.le_of_ble_eq_true rfl) (fun n9 hn9 => x_out h hX ⟨rfl, hn9, rfl, rfl, rfl, rfl⟩ (by decide) (by decide))
set_option maxHeartbeats 4000000 in
theorem k27_at (l : Launch) (G : xG_T) (n : Nat) (Ty : Nat → xs_T) (F : xF_T) (hC : WC n Ty F) (I : xI_T) (L : xL_T) (q a z : Nat) (i : Int32) (hq : q < n) (hT : Ty q = some (.inl 27)) (hf : F q 0 = some a) (ha : a < n) (hTa : Ty a = some (.inr (4, z))) (hi : vp_in i z) : CE l (0) yX27_at cX27_at 2 (some .long) G n Ty F [.ref (xb G + q), .int i] I L (some (.long (L a (ix i)))) (I) := by
  refine Cg.intro (cls := RX27) (pad := 0) (lv := [some (.ref (xb G + q)), some (.int i)]) rfl (by decide) (Nat.le_of_ble_eq_true rfl) rfl (fun Θ h => ?_)
  refine x_aload_n h dX27_at_0 rfl ?_
  refine x_getr h (j := a) g_X27_7 hq hT (by decide) hf dX27_at_1 ?_
  refine x_iload_n h dX27_at_4 rfl ?_
  refine x_lald h ha hTa hi _ rfl dX27_at_5 ?_
  exact x_lret h dX27_at_6 rfl (xpE.to rfl rfl rfl rfl)
set_option maxHeartbeats 4000000 in
theorem k27_atZ (l : Launch) (hl : l.stackTraces = false) (G : xG_T) (n : Nat) (Ty : Nat → xs_T) (F : xF_T) (hC : WC n Ty F) (I : xI_T) (L : xL_T) (q a z : Nat) (i : Int32) (hq : q < n) (hT : Ty q = some (.inl 27)) (hf : F q 0 = some a) (ha : a < n) (hTa : Ty a = some (.inr (4, z))) (hz : z ≤ 60) (hi : ¬ vp_in i z) : CgX l (201) 3 1010 yX27_at cX27_at 2 (some .long) G idC [.ref (xb G + q), .int i] n Ty I L F (pF) (pxE "java/lang/ArrayIndexOutOfBoundsException" n Ty I L F) := by
  refine CgX.intro (cls := RX27) (pad := 0) (lv := [some (.ref (xb G + q)), some (.int i)]) rfl (by decide) (Nat.le_of_ble_eq_true rfl) rfl (fun Θ h hX => ?_)
  refine x_aload_n h dX27_at_0 rfl ?_
  refine x_getr h (j := a) g_X27_7 hq hT (by decide) hf dX27_at_1 ?_
  refine x_iload_n h dX27_at_4 rfl ?_
  refine x_laldZ h hl ha hTa (by omega) hi dX27_at_5 (by decide) ⟨by decide, by decide⟩ (Nat.le_of_ble_eq_true rfl) (fun n9 hn9 => x_out h hX ⟨rfl, hn9, rfl, rfl, rfl, rfl⟩ (by decide) (by decide))
set_option maxHeartbeats 4000000 in
theorem k27_put (l : Launch) (G : xG_T) (n : Nat) (Ty : Nat → xs_T) (F : xF_T) (hC : WC n Ty F) (I : xI_T) (L : xL_T) (q a z : Nat) (i : Int32) (v : Int64) (hq : q < n) (hT : Ty q = some (.inl 27)) (hf : F q 0 = some a) (ha : a < n) (hTa : Ty a = some (.inr (4, z))) (hi : vp_in i z) : Cg l (0) 0 0 yX27_put cX27_put 4 (some .boolean) G idC [.ref (xb G + q), .int i, .long v] n Ty I L F (xpE (some (.int 1)) n Ty (I) (up2 L a (ix i) v) F) := by
  refine Cg.intro (cls := RX27) (pad := 0) (lv := [some (.ref (xb G + q)), some (.int i), some (.long v), none]) rfl (by decide) (Nat.le_of_ble_eq_true rfl) rfl (fun Θ h => ?_)
  refine x_aload_n h dX27_put_0 rfl ?_
  refine x_getr h (j := a) g_X27_7 hq hT (by decide) hf dX27_put_1 ?_
  refine x_iload_n h dX27_put_4 rfl ?_
  refine x_lload_n h dX27_put_5 rfl ?_
  refine x_last h ha hTa hi _ rfl dX27_put_6 (fun M6 eM6 => ?_)
  refine x_iconst h dX27_put_7 (1) rfl ?_
  exact x_zret h dX27_put_8 rfl rfl (xpE.to rfl rfl eM6 rfl)
set_option maxHeartbeats 4000000 in
theorem k27_putZ (l : Launch) (hl : l.stackTraces = false) (G : xG_T) (n : Nat) (Ty : Nat → xs_T) (F : xF_T) (hC : WC n Ty F) (I : xI_T) (L : xL_T) (q a z : Nat) (i : Int32) (v : Int64) (hq : q < n) (hT : Ty q = some (.inl 27)) (hf : F q 0 = some a) (ha : a < n) (hTa : Ty a = some (.inr (4, z))) (hz : z ≤ 60) (hi : ¬ vp_in i z) : CgX l (201) 3 1010 yX27_put cX27_put 4 (some .boolean) G idC [.ref (xb G + q), .int i, .long v] n Ty I L F (pF) (pxE "java/lang/ArrayIndexOutOfBoundsException" n Ty I L F) := by
  refine CgX.intro (cls := RX27) (pad := 0) (lv := [some (.ref (xb G + q)), some (.int i), some (.long v), none]) rfl (by decide) (Nat.le_of_ble_eq_true rfl) rfl (fun Θ h hX => ?_)
  refine x_aload_n h dX27_put_0 rfl ?_
  refine x_getr h (j := a) g_X27_7 hq hT (by decide) hf dX27_put_1 ?_
  refine x_iload_n h dX27_put_4 rfl ?_
  refine x_lload_n h dX27_put_5 rfl ?_
  refine x_lastZ h hl ha hTa (by omega) hi dX27_put_6 (by decide) ⟨by decide, by decide⟩ (Nat.le_of_ble_eq_true rfl) (fun n9 hn9 => x_out h hX ⟨rfl, hn9, rfl, rfl, rfl, rfl⟩ (by decide) (by decide))
set_option maxHeartbeats 4000000 in
theorem k28_at (l : Launch) (G : xG_T) (n : Nat) (Ty : Nat → xs_T) (F : xF_T) (hC : WC n Ty F) (I : xI_T) (L : xL_T) (q a z : Nat) (i : Int32) (hq : q < n) (hT : Ty q = some (.inl 28)) (hf : F q 0 = some a) (ha : a < n) (hTa : Ty a = some (.inr (3, z))) (hi : vp_in i z) : CE l (0) yX28_at cX28_at 2 (some .long) G n Ty F [.ref (xb G + q), .int i] I L (some (.long (if I a (ix i) = 0 then 0 else 1))) (I) := by
  refine Cg.intro (cls := RX28) (pad := 0) (lv := [some (.ref (xb G + q)), some (.int i)]) rfl (by decide) (Nat.le_of_ble_eq_true rfl) rfl (fun Θ h => ?_)
  refine x_aload_n h dX28_at_0 rfl ?_
  refine x_getr h (j := a) g_X28_7 hq hT (by decide) hf dX28_at_1 ?_
  refine x_iload_n h dX28_at_4 rfl ?_
  refine x_zald h ha hTa hi _ rfl dX28_at_5 ?_
  refine x_if_eq h 13 dX28_at_6 rfl (fun c6 => ?_) (fun c6 => ?_)
  · skip
    refine x_lconst h dX28_at_13 (0) rfl ?_
    exact x_lret h dX28_at_14 rfl (xpE.to (by refine congrArg (fun z => some (Value.long z)) ?_; first | (rw [if_pos c6]; done) | (rw [if_neg c6]; done)) rfl rfl rfl)
  · skip
    refine x_lconst h dX28_at_9 (1) rfl ?_
    refine x_goto h 14 dX28_at_10 rfl ?_
    exact x_lret h dX28_at_14 rfl (xpE.to (by refine congrArg (fun z => some (Value.long z)) ?_; first | (rw [if_pos c6]; done) | (rw [if_neg c6]; done)) rfl rfl rfl)
set_option maxHeartbeats 4000000 in
theorem k28_atZ (l : Launch) (hl : l.stackTraces = false) (G : xG_T) (n : Nat) (Ty : Nat → xs_T) (F : xF_T) (hC : WC n Ty F) (I : xI_T) (L : xL_T) (q a z : Nat) (i : Int32) (hq : q < n) (hT : Ty q = some (.inl 28)) (hf : F q 0 = some a) (ha : a < n) (hTa : Ty a = some (.inr (3, z))) (hz : z ≤ 60) (hi : ¬ vp_in i z) : CgX l (201) 3 1010 yX28_at cX28_at 2 (some .long) G idC [.ref (xb G + q), .int i] n Ty I L F (pF) (pxE "java/lang/ArrayIndexOutOfBoundsException" n Ty I L F) := by
  refine CgX.intro (cls := RX28) (pad := 0) (lv := [some (.ref (xb G + q)), some (.int i)]) rfl (by decide) (Nat.le_of_ble_eq_true rfl) rfl (fun Θ h hX => ?_)
  refine x_aload_n h dX28_at_0 rfl ?_
  refine x_getr h (j := a) g_X28_7 hq hT (by decide) hf dX28_at_1 ?_
  refine x_iload_n h dX28_at_4 rfl ?_
  refine x_zaldZ h hl ha hTa (by omega) hi dX28_at_5 (by decide) ⟨by decide, by decide⟩ (Nat.le_of_ble_eq_true rfl) (fun n9 hn9 => x_out h hX ⟨rfl, hn9, rfl, rfl, rfl, rfl⟩ (by decide) (by decide))
set_option maxHeartbeats 4000000 in
theorem k28_put (l : Launch) (G : xG_T) (n : Nat) (Ty : Nat → xs_T) (F : xF_T) (hC : WC n Ty F) (I : xI_T) (L : xL_T) (q a z : Nat) (i : Int32) (v : Int64) (hq : q < n) (hT : Ty q = some (.inl 28)) (hf : F q 0 = some a) (ha : a < n) (hTa : Ty a = some (.inr (3, z))) (hi : vp_in i z) : Cg l (0) 0 0 yX28_put cX28_put 4 (some .boolean) G idC [.ref (xb G + q), .int i, .long v] n Ty I L F (xpE (some (.int 1)) n Ty (up2 I a (ix i) (vp_nar .boolean (if v = 0 then 0 else 1))) (L) F) := by
  refine Cg.intro (cls := RX28) (pad := 0) (lv := [some (.ref (xb G + q)), some (.int i), some (.long v), none]) rfl (by decide) (Nat.le_of_ble_eq_true rfl) rfl (fun Θ h => ?_)
  refine x_aload_n h dX28_put_0 rfl ?_
  refine x_getr h (j := a) g_X28_7 hq hT (by decide) hf dX28_put_1 ?_
  refine x_iload_n h dX28_put_4 rfl ?_
  refine x_lload_n h dX28_put_5 rfl ?_
  refine x_lconst h dX28_put_6 (0) rfl ?_
  refine x_lcmp h dX28_put_7 ?_
  refine x_if_eq h 15 dX28_put_8 rfl (fun c8 => ?_) (fun c8 => ?_)
  · skip
    have hv0 : v = 0 := (lg_cmp_eq _ _).mp c8
    refine x_iconst h dX28_put_15 (0) rfl ?_
    refine x_zast h ha hTa hi _ rfl dX28_put_16 (fun J16 eJ16 => ?_)
    refine x_iconst h dX28_put_17 (1) rfl ?_
    exact x_zret h dX28_put_18 rfl rfl (xpE.to rfl (by rw [eJ16]; first | (rw [if_pos hv0]; done) | (rw [if_neg hv0]; done)) rfl rfl)
  · skip
    have hv0 : ¬ v = 0 := fun z => c8 ((lg_cmp_eq _ _).mpr z)
    refine x_iconst h dX28_put_11 (1) rfl ?_
    refine x_goto h 16 dX28_put_12 rfl ?_
    refine x_zast h ha hTa hi _ rfl dX28_put_16 (fun J16 eJ16 => ?_)
    refine x_iconst h dX28_put_17 (1) rfl ?_
    exact x_zret h dX28_put_18 rfl rfl (xpE.to rfl (by rw [eJ16]; first | (rw [if_pos hv0]; done) | (rw [if_neg hv0]; done)) rfl rfl)
set_option maxHeartbeats 4000000 in
theorem k28_putZ (l : Launch) (hl : l.stackTraces = false) (G : xG_T) (n : Nat) (Ty : Nat → xs_T) (F : xF_T) (hC : WC n Ty F) (I : xI_T) (L : xL_T) (q a z : Nat) (i : Int32) (v : Int64) (hq : q < n) (hT : Ty q = some (.inl 28)) (hf : F q 0 = some a) (ha : a < n) (hTa : Ty a = some (.inr (3, z))) (hz : z ≤ 60) (hi : ¬ vp_in i z) : CgX l (201) 3 1010 yX28_put cX28_put 4 (some .boolean) G idC [.ref (xb G + q), .int i, .long v] n Ty I L F (pF) (pxE "java/lang/ArrayIndexOutOfBoundsException" n Ty I L F) := by
  refine CgX.intro (cls := RX28) (pad := 0) (lv := [some (.ref (xb G + q)), some (.int i), some (.long v), none]) rfl (by decide) (Nat.le_of_ble_eq_true rfl) rfl (fun Θ h hX => ?_)
  refine x_aload_n h dX28_put_0 rfl ?_
  refine x_getr h (j := a) g_X28_7 hq hT (by decide) hf dX28_put_1 ?_
  refine x_iload_n h dX28_put_4 rfl ?_
  refine x_lload_n h dX28_put_5 rfl ?_
  refine x_lconst h dX28_put_6 (0) rfl ?_
  refine x_lcmp h dX28_put_7 ?_
  refine x_if_eq h 15 dX28_put_8 rfl (fun c8 => ?_) (fun c8 => ?_)
  · skip
    refine x_iconst h dX28_put_15 (0) rfl ?_
    refine x_zastZ h hl ha hTa (by omega) hi dX28_put_16 (by decide) ⟨by decide, by decide⟩ (Nat.le_of_ble_eq_true rfl) (fun n9 hn9 => x_out h hX ⟨rfl, hn9, rfl, rfl, rfl, rfl⟩ (by decide) (by decide))
  · skip
    refine x_iconst h dX28_put_11 (1) rfl ?_
    refine x_goto h 16 dX28_put_12 rfl ?_
    refine x_zastZ h hl ha hTa (by omega) hi dX28_put_16 (by decide) ⟨by decide, by decide⟩ (Nat.le_of_ble_eq_true rfl) (fun n9 hn9 => x_out h hX ⟨rfl, hn9, rfl, rfl, rfl, rfl⟩ (by decide) (by decide))
