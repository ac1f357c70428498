/-! WALKS OF THE COMPONENT: images -/
theorem p_X0_400 : xfp RX0 400 0 31 (tyX0 31) false := ⟨_, _, _, tyX0, rfl, by decide, in_X0, q739, rfl, tyX0_ok, nmX0, tyX0_ok 31 (by decide), rfl⟩
theorem g_X0_193 : xfg RX0 193 0 32 := ⟨_, _, _, rfl, by decide, in_X0, q740, rfl⟩
theorem p_X0_404 : xfp RX0 404 0 33 (tyX0 33) false := ⟨_, _, _, tyX0, rfl, by decide, in_X0, q741, rfl, tyX0_ok, nmX0, tyX0_ok 33 (by decide), rfl⟩
theorem p_X0_407 : xfp RX0 407 0 34 (tyX0 34) false := ⟨_, _, _, tyX0, rfl, by decide, in_X0, q742, rfl, tyX0_ok, nmX0, tyX0_ok 34 (by decide), rfl⟩
theorem p_X0_410 : xfp RX0 410 0 35 (tyX0 35) false := ⟨_, _, _, tyX0, rfl, by decide, in_X0, q743, rfl, tyX0_ok, nmX0, tyX0_ok 35 (by decide), rfl⟩
theorem p_X0_413 : xfp RX0 413 0 36 (tyX0 36) false := ⟨_, _, _, tyX0, rfl, by decide, in_X0, q744, rfl, tyX0_ok, nmX0, tyX0_ok 36 (by decide), rfl⟩
theorem p_X0_416 : xfp RX0 416 0 37 (tyX0 37) false := ⟨_, _, _, tyX0, rfl, by decide, in_X0, q745, rfl, tyX0_ok, nmX0, tyX0_ok 37 (by decide), rfl⟩
theorem p_X0_419 : xfp RX0 419 0 38 (tyX0 38) false := ⟨_, _, _, tyX0, rfl, by decide, in_X0, q746, rfl, tyX0_ok, nmX0, tyX0_ok 38 (by decide), rfl⟩
theorem g_X0_400 : xfg RX0 400 0 31 := ⟨_, _, _, rfl, by decide, in_X0, q739, rfl⟩
theorem g_X0_404 : xfg RX0 404 0 33 := ⟨_, _, _, rfl, by decide, in_X0, q741, rfl⟩
theorem p_X0_252 : xfpN RX0 252 2 5 (tyX2 5) := ⟨_, _, _, _, tyX2, rfl, by decide, in_X2, q669, rfl, tyX2_ok, nmX2, tyX2_ok 5 (by decide), rfl⟩
theorem g_X0_407 : xfg RX0 407 0 34 := ⟨_, _, _, rfl, by decide, in_X0, q742, rfl⟩
theorem g_X0_410 : xfg RX0 410 0 35 := ⟨_, _, _, rfl, by decide, in_X0, q743, rfl⟩
theorem g_X0_413 : xfg RX0 413 0 36 := ⟨_, _, _, rfl, by decide, in_X0, q744, rfl⟩
theorem g_X0_416 : xfg RX0 416 0 37 := ⟨_, _, _, rfl, by decide, in_X0, q745, rfl⟩
theorem g_X0_419 : xfg RX0 419 0 38 := ⟨_, _, _, rfl, by decide, in_X0, q746, rfl⟩
set_option maxHeartbeats 4000000 in
theorem k0_image (l : Launch) (G : xG_T) (n : Nat) (Ty : Nat → xs_T) (F : xF_T) (hC : WC n Ty F) (I : xI_T) (L : xL_T) (J : xI_T) (M : xL_T)  (hT : TOP n Ty I L F J M) : Cg l (5) 0 0 yX0_image cX0_image 1 (some .int) G idC [.ref (xb G + 0)] n Ty I L F (pT n Ty (.int ((m_image J).1)) ((m_image J).2) (M)) := by
  refine Cg.intro (cls := RX0) (pad := 0) (lv := [some (.ref (xb G + 0))]) rfl (by decide) (Nat.le_of_ble_eq_true rfl) rfl (fun Θ h => ?_)
  have hQ := hT.Q
  have hI0 : I 0 1 = J 70 0 := hQ.1.1.1
  have hb := hQ.2.2.1.1
  obtain ⟨nb, hnb, enb, enx, hnI⟩ := hQ.nb
  have ekB : ∀ o : Int32, k_isB I o = m_isB J o := isB_k hI0
  have ⟨tC, tNU, tNO, tBY, tKL, tWW, tRB, tBU, tCH, tTA, tLE, tIM, tBO, tTR, tSH, tFR⟩ := hT
  refine x_aload_n h dX0_image_0 rfl ?_
  refine x_iconst h dX0_image_1 (1) rfl ?_
  refine x_puti h p_X0_400 (mlt hC.1 rfl) (hC.2.1 _ _ rfl) rfl rfl rfl dX0_image_2 (fun J2 eJ2 => ?_)
  refine x_aload_n h dX0_image_5 rfl ?_
  have hf2 : Fr (fun q k => q = 0 ∧ k = 31) I J2 := by rw [eJ2]; exact Fr.rf.up ⟨rfl, rfl⟩
  have hQ2 := hQ.mv (J' := J) (fun q k z => hf2 q k (by unfold pI at z; omega)) (fun _ _ _ => rfl)
  refine x_callVRr h (As := []) (k0_layNow6 l G n _ _ hC _ _ J hQ2.1 hQ.2.2.1) m_X0_291 (mlt hC.1 rfl) (hC.2.1 _ _ rfl) dX0_image_6 ⟨by decide, by decide⟩ ⟨by decide, by decide⟩ rfl (Nat.le_of_ble_eq_true rfl) (fun J6 hp6 => ?_)
  have hR6 := hp6.1.2.1 (up2 J 70 43 0) ⟨⟨up2_k _ _ (by decide), up2_k _ _ (by decide), up2_s _ _ _ _⟩, fun k _ => up2_i _ _ (by decide), fun k _ => up2_i _ _ (by decide)⟩
  have hM2 : Wmk (up2 J 70 43 0) := tWW.1.mv (up2_k _ _ (by decide)) (up2_k _ _ (by decide)) fun j _ _ => up2_i _ _ (by decide)
  refine x_pop h dX0_image_9 rfl ?_
  refine x_aload_n h dX0_image_10 rfl ?_
  refine x_getr h (j := 25) g_X0_193 (mlt hC.1 rfl) (hC.2.1 _ _ rfl) (by decide) (hC.2.2 _ _ _ rfl) dX0_image_11 ?_
  refine x_aload_n h dX0_image_14 rfl ?_
  refine x_getr h (j := 6) g_X0_170 (mlt hC.1 rfl) (hC.2.1 _ _ rfl) (by decide) (hC.2.2 _ _ _ rfl) dX0_image_15 ?_
  refine x_callVEv h (As := [.ref _]) (k2_likeThat l G n _ _ hC _ _ 25 6 (hC.mk (by unfold isMk; omega)) (hC.mk (by unfold isMk; omega))) m_X0_216 (mlt hC.1 rfl) (hC.2.1 _ _ rfl) dX0_image_18 ⟨by decide, by decide⟩ ⟨by decide, by decide⟩ rfl (Nat.le_of_ble_eq_true rfl) ?_
  refine x_nmI (fun J18 eJ18 => ?_)
  have hR18 : RC J18 (up2 J 70 43 0) 25 := by rw [eJ18]; exact like_R hR6 hM2 (by omega)
  have h18 : ∀ q k : Nat, ¬ ((q = 0 ∧ k = 31) ∨ (q = 6 ∧ 7 ≤ k ∧ k ≤ 9) ∨ q = 7 ∨ q = 8 ∨ (34 ≤ q ∧ q ≤ 39) ∨ (25 ≤ q ∧ q ≤ 30)) → J18 q k = I q k := fun q k z => by rw [eJ18, klike_o (by omega), hp6.2 q k (by unfold lset; omega), hf2 q k (by omega)]
  refine x_aload_n h dX0_image_21 rfl ?_
  refine x_aload_n h dX0_image_22 rfl ?_
  refine x_geti h g_X0_1 (mlt hC.1 rfl) (hC.2.1 _ _ rfl) rfl dX0_image_23 ?_
  refine x_puti h p_X0_404 (mlt hC.1 rfl) (hC.2.1 _ _ rfl) rfl rfl rfl dX0_image_26 (fun J26 eJ26 => ?_)
  refine x_aload_n h dX0_image_29 rfl ?_
  refine x_aload_n h dX0_image_30 rfl ?_
  refine x_geti h g_X0_385 (mlt hC.1 rfl) (hC.2.1 _ _ rfl) rfl dX0_image_31 ?_
  refine x_puti h p_X0_407 (mlt hC.1 rfl) (hC.2.1 _ _ rfl) rfl rfl rfl dX0_image_34 (fun J34 eJ34 => ?_)
  refine x_aload_n h dX0_image_37 rfl ?_
  refine x_aload_n h dX0_image_38 rfl ?_
  refine x_geti h g_X0_388 (mlt hC.1 rfl) (hC.2.1 _ _ rfl) rfl dX0_image_39 ?_
  refine x_puti h p_X0_410 (mlt hC.1 rfl) (hC.2.1 _ _ rfl) rfl rfl rfl dX0_image_42 (fun J42 eJ42 => ?_)
  refine x_aload_n h dX0_image_45 rfl ?_
  refine x_aload_n h dX0_image_46 rfl ?_
  refine x_geti h g_X0_391 (mlt hC.1 rfl) (hC.2.1 _ _ rfl) rfl dX0_image_47 ?_
  refine x_puti h p_X0_413 (mlt hC.1 rfl) (hC.2.1 _ _ rfl) rfl rfl rfl dX0_image_50 (fun J50 eJ50 => ?_)
  refine x_aload_n h dX0_image_53 rfl ?_
  refine x_aload_n h dX0_image_54 rfl ?_
  refine x_geti h g_X0_394 (mlt hC.1 rfl) (hC.2.1 _ _ rfl) rfl dX0_image_55 ?_
  refine x_puti h p_X0_416 (mlt hC.1 rfl) (hC.2.1 _ _ rfl) rfl rfl rfl dX0_image_58 (fun J58 eJ58 => ?_)
  refine x_aload_n h dX0_image_61 rfl ?_
  refine x_aload_n h dX0_image_62 rfl ?_
  refine x_geti h g_X0_397 (mlt hC.1 rfl) (hC.2.1 _ _ rfl) rfl dX0_image_63 ?_
  refine x_puti h p_X0_419 (mlt hC.1 rfl) (hC.2.1 _ _ rfl) rfl rfl rfl dX0_image_66 (fun J66 eJ66 => ?_)
  refine x_aload_n h dX0_image_69 rfl ?_
  refine x_geti h g_X0_385 (mlt hC.1 rfl) (hC.2.1 _ _ rfl) rfl dX0_image_70 ?_
  have d66 : ∀ q k : Nat, ¬ (q = 0 ∧ 33 ≤ k ∧ k ≤ 38) → J66 q k = J18 q k := fun q k z => by rw [eJ66, eJ58, eJ50, eJ42, eJ34, eJ26, up2_n _ _ (by omega), up2_n _ _ (by omega), up2_n _ _ (by omega), up2_n _ _ (by omega), up2_n _ _ (by omega), up2_n _ _ (by omega)]
  have v33 : J66 0 33 = I 0 1 := by rw [eJ66, eJ58, eJ50, eJ42, eJ34, eJ26, up2_k _ _ (by decide), up2_k _ _ (by decide), up2_k _ _ (by decide), up2_k _ _ (by decide), up2_k _ _ (by decide), up2_s, h18 0 1 (by omega)]
  have v34 : J66 0 34 = I 0 26 := by rw [eJ66, eJ58, eJ50, eJ42, eJ34, up2_k _ _ (by decide), up2_k _ _ (by decide), up2_k _ _ (by decide), up2_k _ _ (by decide), up2_s, eJ26, up2_k _ _ (by decide), h18 0 26 (by omega)]
  have v35 : J66 0 35 = I 0 27 := by rw [eJ66, eJ58, eJ50, eJ42, up2_k _ _ (by decide), up2_k _ _ (by decide), up2_k _ _ (by decide), up2_s, eJ34, up2_k _ _ (by decide), eJ26, up2_k _ _ (by decide), h18 0 27 (by omega)]
  have v36 : J66 0 36 = I 0 28 := by rw [eJ66, eJ58, eJ50, up2_k _ _ (by decide), up2_k _ _ (by decide), up2_s, eJ42, up2_k _ _ (by decide), eJ34, up2_k _ _ (by decide), eJ26, up2_k _ _ (by decide), h18 0 28 (by omega)]
  have v37 : J66 0 37 = I 0 29 := by rw [eJ66, eJ58, up2_k _ _ (by decide), up2_s, eJ50, up2_k _ _ (by decide), eJ42, up2_k _ _ (by decide), eJ34, up2_k _ _ (by decide), eJ26, up2_k _ _ (by decide), h18 0 29 (by omega)]
  have v38 : J66 0 38 = I 0 30 := by rw [eJ66, up2_s, eJ58, up2_k _ _ (by decide), eJ50, up2_k _ _ (by decide), eJ42, up2_k _ _ (by decide), eJ34, up2_k _ _ (by decide), eJ26, up2_k _ _ (by decide), h18 0 30 (by omega)]
  have v31 : J66 0 31 = 1 := by rw [d66 0 31 (by omega), eJ18, klike_o (by omega), hp6.2 0 31 (by unfold lset; omega), eJ2, up2_s]
  have hI : ∀ q k : Nat, ¬ ((q = 0 ∧ (k = 31 ∨ (33 ≤ k ∧ k ≤ 38))) ∨ (q = 6 ∧ 7 ≤ k ∧ k ≤ 9) ∨ q = 7 ∨ q = 8 ∨ (34 ≤ q ∧ q ≤ 39) ∨ (25 ≤ q ∧ q ≤ 30)) → J66 q k = I q k := fun q k z => by rw [d66 q k (by omega), h18 q k (by omega)]
  obtain ⟨im1, hJ, im2, im3, im4, im5⟩ := image_J (J := J)
  have j2 : ∀ k : Nat, up2 J 70 43 0 72 k = J 72 k := fun k => up2_i _ _ (by decide)
  have j20 : up2 J 70 43 0 70 0 = J 70 0 := up2_k _ _ (by decide)
  have hz6 := ix_7 tWW.1.2.2.2.1
  have id : ∀ q k : Nat, 103 ≤ q → q < n → J66 q k = I q k := fun q k z _ => hI q k (by omega)
  have dI := dynI.of (Ty := Ty) id
  have dB := dynB.of (Ty := Ty) id
  have dA := dynA.of (Ty := Ty) (L := L) id (fun _ _ _ _ => rfl)
  exact x_iret h dX0_image_73 rfl ⟨congrArg (fun z => some (Value.int z)) ((by rw [d66 0 26 (by omega), h18 0 26 (by omega), im1]; exact tLE.1)), grw.rf, ⟨tC, tNU.w (fun k _ _ => hI 0 k (by omega)) (fun q k _ => hJ q k (by omega)), tNO.w tWW (fun q k _ => hI q k (by omega)) (fun q k _ => hJ q k (by omega)), tBY.w tWW grw.rf dB (fun _ _ => rfl) (fun q k _ => hJ q k (by omega)), tKL.w grw.rf dI dynF.rf rfl (fun q k _ => hJ q k (by omega)), tWW.w (fun q k _ => hJ q k (by omega)), tRB.w (fun k => hI 23 k (by omega)) (fun k => hJ 101 k (by omega)), tBU.w (fun _ _ => rfl) (hJ 70 0 (by omega)), tCH.w grw.rf dI ⟨hI 0 6 (by omega), hI 0 7 (by omega)⟩ (fun _ => rfl) (fun q k _ => hJ q k (by omega)), tTA.w (fun q k _ => hI q k (by omega)) (fun q k _ => hJ q k (by omega)), tLE.w (fun k _ _ => hI 0 k (by omega)) (fun k => hJ 84 k (by omega)), ⟨by rw [v31, im2], Or.inr ⟨im2, nb, ⟨by rw [hJ 70 0 (by omega), enx]; exact Nat.le_refl _, by rw [im3]; exact enb, by rw [v33]; exact hnI⟩, fun b hb9 => ⟨by rw [d66 26 b (by omega), im4 b (by omega)]; have y := (hR18.1 b (by rw [j20, enx]; exact hb9)).1; rw [j2] at y; exact y, by rw [d66 28 b (by omega), im4 _ (by omega)]; have y := (hR18.1 b (by rw [j20, enx]; exact hb9)).2.2; rw [j2] at y; exact y⟩, ⟨by rw [d66 25 5 (by omega), im4 18 (by omega)]; have y := hR18.2.1.1; rw [j2] at y; exact y, by rw [d66 25 6 (by omega), im4 9 (by omega)]; have y := hR18.2.2.1; rw [j2] at y; exact y, by rw [d66 25 8 (by omega), im4 8 (by omega)]; have y := hR18.2.2.2.2.1; rw [j2] at y; exact y⟩, fun k hk => by rw [im4 18 (by omega)] at hk; rw [d66 29 k (by omega), d66 30 k (by omega), im4 _ (by omega), im4 _ (by omega)]; have y := hR18.2.1.2 k (by rw [j2]; exact hk); rw [j2, j2, j20, enx] at y; exact y, ⟨by rw [im4 18 (by omega)]; exact tWW.1.2.2.2.1, fun k y1 y2 => by rw [im4 k (by omega)]; exact tWW.1.2.2.2.2 k y1 y2, by rw [im4 8 (by omega)]; exact tWW.2.2⟩, by rw [v34, im5 0 (by omega)]; exact tLE.1, by rw [v35, im5 1 (by omega)]; exact tLE.2.1, by rw [v36, im5 2 (by omega)]; exact tLE.2.2.1, by rw [v37, im5 3 (by omega)]; exact tLE.2.2.2.1, by rw [v38, im5 4 (by omega)]; exact tLE.2.2.2.2⟩⟩, tBO.w grw.rf dI dynF.rf (hI 0 42 (by omega)) (fun _ => rfl) (fun q k _ => hJ q k (by omega)), tTR.w (fun q k _ => hI q k (by omega)) (fun q k _ => hJ q k (by omega)), tSH.w grw.rf dA dynF.rf ⟨fun _ => rfl, fun _ _ z => z⟩ (fun q k _ => hJ q k (by omega)) (fun _ => rfl) (by rw [hJ 70 31 (by omega)]; exact Nat.le_refl _), tFR.w (fun k => hI 9 k (by omega)) (fun q k _ => hJ q k (by omega))⟩⟩
set_option maxHeartbeats 4000000 in
theorem k0_back (l : Launch) (G : xG_T) (n : Nat) (Ty : Nat → xs_T) (F : xF_T) (hC : WC n Ty F) (I : xI_T) (L : xL_T) (J : xI_T) (M : xL_T)  (hT : TOP n Ty I L F J M) : Cg l (5) 0 0 yX0_back cX0_back 2 (some .int) G idC [.ref (xb G + 0)] n Ty I L F (pT n Ty (.int ((m_back J).1)) ((m_back J).2) (M)) := by
  refine Cg.intro (cls := RX0) (pad := 1) (lv := [some (.ref (xb G + 0)), none]) rfl (by decide) (Nat.le_of_ble_eq_true rfl) rfl (fun Θ h => ?_)
  have hQ := hT.Q
  have hI0 : I 0 1 = J 70 0 := hQ.1.1.1
  have hb := hQ.2.2.1.1
  obtain ⟨nb, hnb, enb, enx, hnI⟩ := hQ.nb
  have ekB : ∀ o : Int32, k_isB I o = m_isB J o := isB_k hI0
  have ⟨tC, tNU, tNO, tBY, tKL, tWW, tRB, tBU, tCH, tTA, tLE, tIM, tBO, tTR, tSH, tFR⟩ := hT
  refine x_aload_n h dX0_back_0 rfl ?_
  refine x_geti h g_X0_400 (mlt hC.1 rfl) (hC.2.1 _ _ rfl) rfl dX0_back_1 ?_
  refine x_if_ne h 10 dX0_back_4 rfl (fun c4 => ?_) (fun c4 => ?_)
  · skip
    have d4 : ¬ J 70 24 = 0 := fun y => c4 (tIM.1.trans y)
    have hz := back_1 d4
    obtain ⟨-, kb, ⟨i1, i2, i3⟩, i4, ⟨i5, i6, i7⟩, i8, ⟨i9, i10, i11⟩, j1, j2, j3, j4, j5⟩ := tIM.2.resolve_left d4
    rw [enx] at i1
    have hJ2 : (m_back J).2 = cpy2 (m_backN J 31) 84 0 86 0 5 := by rw [hz]
    have b72 : ∀ j : Nat, j < 31 → (m_back J).2 72 j = if (j < 8 ∧ kb ≤ j) ∨ (10 + kb ≤ j ∧ j < 18) then J 72 j else J 85 j := fun j hj => by rw [hJ2]; exact backJ_72 i2 (by omega) hj
    have hJ : ∀ q k : Nat, ¬ (q = 72 ∨ q = 84) → (m_back J).2 q k = J q k := fun q k z => by rw [hJ2]; exact backJ_o (by omega) (by omega)
    have b84 : ∀ j : Nat, j < 5 → (m_back J).2 84 j = J 86 j := fun j hj => by rw [hJ2]; exact backJ_84 hj
    refine x_iconst h dX0_back_10 (0) rfl ?_
    refine x_istore_n h dX0_back_11 rfl (by decide) [some (.ref (xb G + 0)), some (.int 0)] rfl ?_
    have lp12 : ∀ (d : Nat) (k : Nat) (A : xI_T), kb - k < d → (k ≤ kb) → (∀ b q : Nat, b < k → F 1 b = some q → A q 0 = I 26 b) → (∀ b q : Nat, kb ≤ b → b < ix (J 70 0) → F 1 b = some q → A q 0 = I q 0) → (∀ b : Nat, b < k → A 9 b = I 28 b) → (Fr (fun q j => pur4 n Ty q j ∨ (q = 9 ∧ j < kb)) I A) → X Θ 0 0 n Ty A L F 12 [some (.ref (xb G + 0)), some (.int (nI k))] [] := by
      intro d
      induction d with
      | zero =>
        intro k A hlt
        exact absurd hlt (Nat.not_lt_zero _)
      | succ d ih =>
        intro k A hlt hk hA hA0 hA9 hf
        have f0 : ∀ q j : Nat, q < 103 → q ≠ 9 → A q j = I q j := fun q j z z9 => hf q j (fun y => by rcases y with y | y; have := y.1; omega; omega)
        refine x_iload_n h dX0_back_12 rfl ?_
        refine x_aload_n h dX0_back_13 rfl ?_
        refine x_geti h g_X0_404 (mlt hC.1 rfl) (hC.2.1 _ _ rfl) rfl dX0_back_14 ?_
        refine x_eqi (nI kb) (by rw [f0 0 33 (by decide) (by decide)]; exact i3) ?_
        refine x_icmp_ge h 62 dX0_back_17 rfl (fun c17 => ?_) (fun c17 => ?_)
        · skip
          have hkn : k = kb := by have := (nI_leI (a := kb) (b := k) (by omega) (by omega)).mp c17; omega
          refine x_aload_n h dX0_back_62 rfl ?_
          refine x_getr h (j := 25) g_X0_193 (mlt hC.1 rfl) (hC.2.1 _ _ rfl) (by decide) (hC.2.2 _ _ _ rfl) dX0_back_63 ?_
          refine x_getrN h (j := 29) g_X0_255 (mlt hC.1 rfl) (hC.2.1 _ _ rfl) (by decide) (hC.2.2 _ _ _ rfl) dX0_back_66 ?_
          refine x_iconst h dX0_back_69 (0) rfl ?_
          refine x_aload_n h dX0_back_70 rfl ?_
          refine x_getr h (j := 6) g_X0_170 (mlt hC.1 rfl) (hC.2.1 _ _ rfl) (by decide) (hC.2.2 _ _ _ rfl) dX0_back_71 ?_
          refine x_getrN h (j := 10) g_X0_255 (mlt hC.1 rfl) (hC.2.1 _ _ rfl) (by decide) (hC.2.2 _ _ _ rfl) dX0_back_74 ?_
          refine x_iconst h dX0_back_77 (0) rfl ?_
          refine x_iconst h dX0_back_78 (5) rfl ?_
          refine x_copyI h q1095 (mlt hC.1 rfl) (hC.2.1 _ _ rfl) (mlt hC.1 rfl) (hC.2.1 _ _ rfl) (by decide) (by decide) (by decide) (by decide) (Nat.le_of_ble_eq_true rfl) (Nat.le_of_ble_eq_true rfl) (fun _ _ => rfl) (by decide) (Nat.le_of_ble_eq_true rfl) dX0_back_79 (fun J79 eJ79 => ?_)
          refine x_aload_n h dX0_back_82 rfl ?_
          refine x_getr h (j := 25) g_X0_193 (mlt hC.1 rfl) (hC.2.1 _ _ rfl) (by decide) (hC.2.2 _ _ _ rfl) dX0_back_83 ?_
          refine x_getrN h (j := 30) g_X0_258 (mlt hC.1 rfl) (hC.2.1 _ _ rfl) (by decide) (hC.2.2 _ _ _ rfl) dX0_back_86 ?_
          refine x_iconst h dX0_back_89 (0) rfl ?_
          refine x_aload_n h dX0_back_90 rfl ?_
          refine x_getr h (j := 6) g_X0_170 (mlt hC.1 rfl) (hC.2.1 _ _ rfl) (by decide) (hC.2.2 _ _ _ rfl) dX0_back_91 ?_
          refine x_getrN h (j := 11) g_X0_258 (mlt hC.1 rfl) (hC.2.1 _ _ rfl) (by decide) (hC.2.2 _ _ _ rfl) dX0_back_94 ?_
          refine x_iconst h dX0_back_97 (0) rfl ?_
          refine x_iconst h dX0_back_98 (5) rfl ?_
          refine x_copyI h q1095 (mlt hC.1 rfl) (hC.2.1 _ _ rfl) (mlt hC.1 rfl) (hC.2.1 _ _ rfl) (by decide) (by decide) (by decide) (by decide) (Nat.le_of_ble_eq_true rfl) (Nat.le_of_ble_eq_true rfl) (fun _ _ => rfl) (by decide) (Nat.le_of_ble_eq_true rfl) dX0_back_99 (fun J99 eJ99 => ?_)
          refine x_aload_n h dX0_back_102 rfl ?_
          refine x_getr h (j := 6) g_X0_170 (mlt hC.1 rfl) (hC.2.1 _ _ rfl) (by decide) (hC.2.2 _ _ _ rfl) dX0_back_103 ?_
          refine x_aload_n h dX0_back_106 rfl ?_
          refine x_getr h (j := 25) g_X0_193 (mlt hC.1 rfl) (hC.2.1 _ _ rfl) (by decide) (hC.2.2 _ _ _ rfl) dX0_back_107 ?_
          refine x_getiN h g_X0_252 (mlt hC.1 rfl) (hC.2.1 _ _ rfl) rfl dX0_back_110 ?_
          refine x_putiN h p_X0_252 (mlt hC.1 rfl) (hC.2.1 _ _ rfl) rfl rfl rfl dX0_back_113 (fun J113 eJ113 => ?_)
          refine x_aload_n h dX0_back_116 rfl ?_
          refine x_getr h (j := 6) g_X0_170 (mlt hC.1 rfl) (hC.2.1 _ _ rfl) (by decide) (hC.2.2 _ _ _ rfl) dX0_back_117 ?_
          refine x_aload_n h dX0_back_120 rfl ?_
          refine x_getr h (j := 25) g_X0_193 (mlt hC.1 rfl) (hC.2.1 _ _ rfl) (by decide) (hC.2.2 _ _ _ rfl) dX0_back_121 ?_
          refine x_getiN h g_X0_226 (mlt hC.1 rfl) (hC.2.1 _ _ rfl) rfl dX0_back_124 ?_
          refine x_putiN h p_X0_226 (mlt hC.1 rfl) (hC.2.1 _ _ rfl) rfl rfl rfl dX0_back_127 (fun J127 eJ127 => ?_)
          refine x_aload_n h dX0_back_130 rfl ?_
          refine x_aload_n h dX0_back_131 rfl ?_
          refine x_getr h (j := 25) g_X0_193 (mlt hC.1 rfl) (hC.2.1 _ _ rfl) (by decide) (hC.2.2 _ _ _ rfl) dX0_back_132 ?_
          refine x_getiN h g_X0_212 (mlt hC.1 rfl) (hC.2.1 _ _ rfl) rfl dX0_back_135 ?_
          refine x_puti h p_X0_66 (mlt hC.1 rfl) (hC.2.1 _ _ rfl) rfl rfl rfl dX0_back_138 (fun J138 eJ138 => ?_)
          refine x_aload_n h dX0_back_141 rfl ?_
          refine x_aload_n h dX0_back_142 rfl ?_
          refine x_geti h g_X0_407 (mlt hC.1 rfl) (hC.2.1 _ _ rfl) rfl dX0_back_143 ?_
          refine x_puti h p_X0_385 (mlt hC.1 rfl) (hC.2.1 _ _ rfl) rfl rfl rfl dX0_back_146 (fun J146 eJ146 => ?_)
          refine x_aload_n h dX0_back_149 rfl ?_
          refine x_aload_n h dX0_back_150 rfl ?_
          refine x_geti h g_X0_410 (mlt hC.1 rfl) (hC.2.1 _ _ rfl) rfl dX0_back_151 ?_
          refine x_puti h p_X0_388 (mlt hC.1 rfl) (hC.2.1 _ _ rfl) rfl rfl rfl dX0_back_154 (fun J154 eJ154 => ?_)
          refine x_aload_n h dX0_back_157 rfl ?_
          refine x_aload_n h dX0_back_158 rfl ?_
          refine x_geti h g_X0_413 (mlt hC.1 rfl) (hC.2.1 _ _ rfl) rfl dX0_back_159 ?_
          refine x_puti h p_X0_391 (mlt hC.1 rfl) (hC.2.1 _ _ rfl) rfl rfl rfl dX0_back_162 (fun J162 eJ162 => ?_)
          refine x_aload_n h dX0_back_165 rfl ?_
          refine x_aload_n h dX0_back_166 rfl ?_
          refine x_geti h g_X0_416 (mlt hC.1 rfl) (hC.2.1 _ _ rfl) rfl dX0_back_167 ?_
          refine x_puti h p_X0_394 (mlt hC.1 rfl) (hC.2.1 _ _ rfl) rfl rfl rfl dX0_back_170 (fun J170 eJ170 => ?_)
          refine x_aload_n h dX0_back_173 rfl ?_
          refine x_aload_n h dX0_back_174 rfl ?_
          refine x_geti h g_X0_419 (mlt hC.1 rfl) (hC.2.1 _ _ rfl) rfl dX0_back_175 ?_
          refine x_puti h p_X0_397 (mlt hC.1 rfl) (hC.2.1 _ _ rfl) rfl rfl rfl dX0_back_178 (fun J178 eJ178 => ?_)
          refine x_aload_n h dX0_back_181 rfl ?_
          refine x_geti h g_X0_385 (mlt hC.1 rfl) (hC.2.1 _ _ rfl) rfl dX0_back_182 ?_
          have eJ79 : J79 = cpy2 A 10 0 29 0 5 := eJ79
          have eJ99 : J99 = cpy2 J79 11 0 30 0 5 := eJ99
          have d178 : ∀ q j : Nat, ¬ (q = 10 ∨ q = 11 ∨ (q = 6 ∧ (j = 5 ∨ j = 6)) ∨ (q = 0 ∧ (j = 4 ∨ (26 ≤ j ∧ j ≤ 30)))) → J178 q j = A q j := fun q j z => by rw [eJ178, eJ170, eJ162, eJ154, eJ146, eJ138, eJ127, eJ113, eJ99, eJ79, up2_n _ _ (by omega), up2_n _ _ (by omega), up2_n _ _ (by omega), up2_n _ _ (by omega), up2_n _ _ (by omega), up2_n _ _ (by omega), up2_n _ _ (by omega), up2_n _ _ (by omega), cpy2_ap, if_neg (by omega), cpy2_ap, if_neg (by omega)]
          have dk : ∀ q j : Nat, 25 ≤ q → q ≤ 30 → A q j = I q j := fun q j z1 z2 => f0 q j (by omega) (by omega)
          have d0 : ∀ j : Nat, 31 ≤ j → j ≤ 38 → A 0 j = I 0 j := fun j z1 z2 => f0 0 j (by omega) (by omega)
          have c79 : ∀ q j : Nat, q ≠ 10 → J79 q j = A q j := fun q j z => by rw [eJ79, cpy2_ap, if_neg (by omega)]
          have c99 : ∀ q j : Nat, q ≠ 10 → q ≠ 11 → J99 q j = A q j := fun q j z1 z2 => by rw [eJ99, cpy2_ap, if_neg (by omega), c79 q j z1]
          have e178 : J178 = up2 (up2 (up2 (up2 (up2 (up2 (up2 (up2 J99 6 5 (I 25 5)) 6 6 (I 25 6)) 0 4 (I 25 8)) 0 26 (I 0 34)) 0 27 (I 0 35)) 0 28 (I 0 36)) 0 29 (I 0 37)) 0 30 (I 0 38) := by
            have a1 : J113 = up2 J99 6 5 (I 25 5) := by rw [eJ113, c99 25 5 (by decide) (by decide), dk 25 5 (by decide) (by decide)]
            have a2 : J127 = up2 J113 6 6 (I 25 6) := by rw [eJ127, a1, up2_i _ _ (show (25 : Nat) ≠ 6 by decide), c99 25 6 (by decide) (by decide), dk 25 6 (by decide) (by decide)]
            have a3 : J138 = up2 J127 0 4 (I 25 8) := by rw [eJ138, a2, up2_i _ _ (show (25 : Nat) ≠ 6 by decide), a1, up2_i _ _ (show (25 : Nat) ≠ 6 by decide), c99 25 8 (by decide) (by decide), dk 25 8 (by decide) (by decide)]
            have b0 : ∀ j : Nat, 31 ≤ j → j ≤ 38 → J138 0 j = I 0 j := fun j z1 z2 => by rw [a3, up2_k _ _ (by omega), a2, up2_i _ _ (by decide), a1, up2_i _ _ (by decide), c99 0 j (by decide) (by decide), d0 j z1 z2]
            have a4 : J146 = up2 J138 0 26 (I 0 34) := by rw [eJ146, b0 34 (by decide) (by decide)]
            have a5 : J154 = up2 J146 0 27 (I 0 35) := by rw [eJ154, a4, up2_k _ _ (by decide), b0 35 (by decide) (by decide)]
            have a6 : J162 = up2 J154 0 28 (I 0 36) := by rw [eJ162, a5, up2_k _ _ (by decide), a4, up2_k _ _ (by decide), b0 36 (by decide) (by decide)]
            have a7 : J170 = up2 J162 0 29 (I 0 37) := by rw [eJ170, a6, up2_k _ _ (by decide), a5, up2_k _ _ (by decide), a4, up2_k _ _ (by decide), b0 37 (by decide) (by decide)]
            rw [eJ178, a7, up2_k _ _ (show (38 : Nat) ≠ 29 by decide), a6, up2_k _ _ (show (38 : Nat) ≠ 28 by decide), a5, up2_k _ _ (show (38 : Nat) ≠ 27 by decide), a4, up2_k _ _ (show (38 : Nat) ≠ 26 by decide), b0 38 (by decide) (by decide), a3, a2, a1]
          have v65 : J178 6 5 = I 25 5 := by rw [e178]; simp [up2_ap]
          have v66 : J178 6 6 = I 25 6 := by rw [e178]; simp [up2_ap]
          have v04 : J178 0 4 = I 25 8 := by rw [e178]; simp [up2_ap]
          have v26 : J178 0 26 = I 0 34 := by rw [e178]; simp [up2_ap]
          have v27 : J178 0 27 = I 0 35 := by rw [e178]; simp [up2_ap]
          have v28 : J178 0 28 = I 0 36 := by rw [e178]; simp [up2_ap]
          have v29 : J178 0 29 = I 0 37 := by rw [e178]; simp [up2_ap]
          have v30 : J178 0 30 = I 0 38 := by rw [e178]; simp [up2_ap]
          have v10 : ∀ j : Nat, j < 5 → J178 10 j = I 29 j := fun j hj => by rw [e178, up2_i _ _ (by decide), up2_i _ _ (by decide), up2_i _ _ (by decide), up2_i _ _ (by decide), up2_i _ _ (by decide), up2_i _ _ (by decide), up2_i _ _ (by decide), up2_i _ _ (by decide), eJ99, cpy2_ap, if_neg (by omega), eJ79, cpy2_ap, if_pos ⟨rfl, Nat.zero_le _, by omega⟩, show 0 + (j - 0) = j by omega, dk 29 j (by decide) (by decide)]
          have v11 : ∀ j : Nat, j < 5 → J178 11 j = I 30 j := fun j hj => by rw [e178, up2_i _ _ (by decide), up2_i _ _ (by decide), up2_i _ _ (by decide), up2_i _ _ (by decide), up2_i _ _ (by decide), up2_i _ _ (by decide), up2_i _ _ (by decide), up2_i _ _ (by decide), eJ99, cpy2_ap, if_pos ⟨rfl, Nat.zero_le _, by omega⟩, show 0 + (j - 0) = j by omega, c79 30 j (by decide), dk 30 j (by decide) (by decide)]
          have hI : ∀ q k : Nat, ¬ (q = 9 ∨ q = 10 ∨ q = 11 ∨ (q = 6 ∧ (k = 5 ∨ k = 6)) ∨ (q = 0 ∧ (k = 4 ∨ (26 ≤ k ∧ k ≤ 30))) ∨ 103 ≤ q) → J178 q k = I q k := fun q k z => by rw [d178 q k (by omega), f0 q k (by omega) (by omega)]
          have id : ∀ q k : Nat, 103 ≤ q → q < n → ¬ (Ty q = some (.inl 4) ∧ k = 0) → J178 q k = I q k := fun q k z1 z2 z => by rw [d178 q k (by omega), hf q k (fun y => by rcases y with y | y; exact z ⟨y.2.2.1, y.2.2.2⟩; omega)]
          have hz18 : ix (J 85 18) < 6 := by obtain ⟨y, hy, ey⟩ := vp_in_of i9 (by decide); rw [ey, ix_n (by omega)]; exact hy
          have b18 : (m_back J).2 72 18 = J 85 18 := by rw [b72 18 (by decide), if_neg (by omega)]
          have dI := dynI.b (Ty := Ty) (I := I) (I' := J178) id
          have dA := dynA.b (Ty := Ty) (I := I) (I' := J178) (L := L) id
          exact x_iret h dX0_back_185 rfl ⟨congrArg (fun z => some (Value.int z)) ((by rw [v26, hz]; show _ = cpy2 (m_backN J 31) 84 0 86 0 5 84 0; rw [backJ_84 (by decide)]; exact j1)), grw.rf, ⟨tC, ⟨(hI 0 1 (by omega)).trans (tNU.1.trans (hJ 70 0 (by omega)).symm), (hI 0 2 (by omega)).trans (tNU.2.1.trans (hJ 70 2 (by omega)).symm), by rw [v04, b72 8 (by decide), if_neg (by omega)]; exact i7, (hI 0 3 (by omega)).trans (tNU.2.2.2.1.trans (hJ 70 3 (by omega)).symm), by rw [hJ 70 3 (by omega)]; exact tNU.2.2.2.2⟩, ⟨by rw [v65, b18]; exact i5, by rw [v66, b72 9 (by decide), if_neg (by omega)]; exact i6, fun j hj => by rw [hJ 70 0 (by omega), enx] at hj; rw [d178 9 j (by omega), b72 _ (by omega)]; by_cases e : j < kb; rw [if_neg (by omega), hA9 j (by omega)]; exact (i4 j e).2; rw [if_pos (by omega), hf 9 j (fun y => by rcases y with y | y; have := y.1; omega; omega)]; exact tNO.2.2.1 j (by rw [enx]; exact hj), fun j hj => by rw [b18] at hj; rw [v10 j (by omega), v11 j (by omega), b72 _ (by omega), b72 _ (by omega), if_neg (by omega), if_neg (by omega), hJ 70 0 (by omega), enx]; obtain ⟨y1, y2, w, y3, y4⟩ := i8 j hj; exact ⟨y1, y2, w, by omega, y4⟩⟩, tBY.pur (fun q k z1 z2 z3 z4 => id q k z1 z2 (fun e => absurd e.2 (by omega))) (fun b q hb9 hq z1 z2 z3 => by rw [d178 q 0 (by omega), b72 b (by omega)]; by_cases e : b < kb; rw [if_neg (by omega), hA b q (by omega) hq]; exact (i4 b e).1; rw [if_pos (by omega)]; obtain ⟨q9, a1, -, -, a4, -⟩ := tBY b hb9; have e9 : q = q9 := Option.some.inj (hq.symm.trans a1); rw [hA0 b q (by omega) hb9 hq, e9]; exact a4) (hJ 70 0 (by omega)) (fun k => hJ 71 k (by omega)), tKL.w grw.rf dI dynF.rf rfl (fun q k _ => hJ q k (by omega)), ⟨⟨by rw [hJ 70 0 (by omega)]; exact tWW.1.1, by rw [hJ 70 2 (by omega)]; exact tWW.1.2.1, by rw [hJ 70 2 (by omega)]; exact tWW.1.2.2.1, by rw [b18]; exact i9, fun j y1 y2 => by rw [b72 j (by omega), if_neg (by omega)]; exact i10 j y1 y2⟩, tWW.2.1.mv (hJ 70 8 (by omega)) fun q j _ _ => hJ q j (by omega), by rw [b72 8 (by decide), if_neg (by omega)]; exact i11⟩, tRB.w (fun k => hI 23 k (by omega)) (fun k => hJ 101 k (by omega)), tBU.w (fun _ _ => rfl) (hJ 70 0 (by omega)), tCH.w grw.rf dI ⟨hI 0 6 (by omega), hI 0 7 (by omega)⟩ (fun _ => rfl) (fun q k _ => hJ q k (by omega)), tTA.w (fun q k _ => hI q k (by omega)) (fun q k _ => hJ q k (by omega)), ⟨by rw [v26, b84 0 (by decide)]; exact j1, by rw [v27, b84 1 (by decide)]; exact j2, by rw [v28, b84 2 (by decide)]; exact j3, by rw [v29, b84 3 (by decide)]; exact j4, by rw [v30, b84 4 (by decide)]; exact j5⟩, tIM.w (fun q k _ => hI q k (by omega)) (fun q k _ => hJ q k (by omega)) (by rw [hJ 70 0 (by omega)]; exact Nat.le_refl _), tBO.w grw.rf dI dynF.rf (hI 0 42 (by omega)) (fun _ => rfl) (fun q k _ => hJ q k (by omega)), tTR.w (fun q k _ => hI q k (by omega)) (fun q k _ => hJ q k (by omega)), tSH.w grw.rf dA dynF.rf ⟨fun _ => rfl, fun _ _ z => z⟩ (fun q k _ => hJ q k (by omega)) (fun _ => rfl) (by rw [hJ 70 31 (by omega)]; exact Nat.le_refl _), fun b h1 h2 => ⟨by rw [hJ 70 0 (by omega), enx] at h1; rw [d178 9 b (by omega), b72 _ (by omega), if_pos (by omega), hf 9 b (fun y => by rcases y with y | y; have := y.1; omega; omega)]; exact (tFR b (by rw [enx]; exact h1) h2).1, by rw [hJ 71 _ (by omega)]; exact (tFR b (by rw [hJ 70 0 (by omega)] at h1; exact h1) h2).2⟩⟩⟩
        · skip
          have hkn : k < kb := Nat.lt_of_not_le fun y => c17 ((nI_leI (by omega) (by omega)).mpr y)
          obtain ⟨q8, hq8, ⟨g8, g8n⟩, g8T, -⟩ := tBY k (by omega)
          refine x_aload_n h dX0_back_20 rfl ?_
          refine x_getr h (j := 1) g_X0_15 (mlt hC.1 rfl) (hC.2.1 _ _ rfl) (by decide) (hC.2.2 _ _ _ rfl) dX0_back_21 ?_
          refine x_iload_n h dX0_back_24 rfl ?_
          refine x_aaldr h (q := q8) (mlt hC.1 rfl) (hC.2.1 _ _ rfl) (by decide) rfl rfl (vp_in_nI (show k < 8 by omega) (by decide)) (k) (nI_clamp (by omega)) hq8 dX0_back_25 ?_
          refine x_aload_n h dX0_back_26 rfl ?_
          refine x_getr h (j := 25) g_X0_193 (mlt hC.1 rfl) (hC.2.1 _ _ rfl) (by decide) (hC.2.2 _ _ _ rfl) dX0_back_27 ?_
          refine x_getrN h (j := 26) g_X0_207 (mlt hC.1 rfl) (hC.2.1 _ _ rfl) (by decide) (hC.2.2 _ _ _ rfl) dX0_back_30 ?_
          refine x_iload_n h dX0_back_33 rfl ?_
          refine x_iald h (mlt hC.1 rfl) (hC.2.1 _ _ rfl) (vp_in_nI (show k < 8 by omega) (by decide)) (k) (nI_clamp (by omega)) dX0_back_34 ?_
          refine x_putiN h p_X0_42 g8n g8T rfl rfl rfl dX0_back_35 (fun J35 eJ35 => ?_)
          refine x_aload_n h dX0_back_38 rfl ?_
          refine x_getr h (j := 6) g_X0_170 (mlt hC.1 rfl) (hC.2.1 _ _ rfl) (by decide) (hC.2.2 _ _ _ rfl) dX0_back_39 ?_
          refine x_getrN h (j := 9) g_X0_220 (mlt hC.1 rfl) (hC.2.1 _ _ rfl) (by decide) (hC.2.2 _ _ _ rfl) dX0_back_42 ?_
          refine x_iload_n h dX0_back_45 rfl ?_
          refine x_aload_n h dX0_back_46 rfl ?_
          refine x_getr h (j := 25) g_X0_193 (mlt hC.1 rfl) (hC.2.1 _ _ rfl) (by decide) (hC.2.2 _ _ _ rfl) dX0_back_47 ?_
          refine x_getrN h (j := 28) g_X0_220 (mlt hC.1 rfl) (hC.2.1 _ _ rfl) (by decide) (hC.2.2 _ _ _ rfl) dX0_back_50 ?_
          refine x_iload_n h dX0_back_53 rfl ?_
          refine x_iald h (mlt hC.1 rfl) (hC.2.1 _ _ rfl) (vp_in_nI (show k < 8 by omega) (by decide)) (k) (nI_clamp (by omega)) dX0_back_54 ?_
          refine x_iast h (mlt hC.1 rfl) (hC.2.1 _ _ rfl) (vp_in_nI (show k < 8 by omega) (by decide)) (k) (nI_clamp (by omega)) dX0_back_55 (fun J55 eJ55 => ?_)
          refine x_iinc h dX0_back_56 (by decide) rfl (nI (k + 1)) (nI_1 k) [some (.ref (xb G + 0)), some (.int (nI (k + 1)))] rfl ?_
          refine x_goto h 12 dX0_back_59 rfl ?_
          exact ih (k + 1) J55 (by omega) (by omega) (fun b q hb9 hq9 => by rw [eJ55]; by_cases e : b = k; rw [e] at hq9 ⊢; rw [show q = q8 from Option.some.inj (hq9.symm.trans hq8), up2_i _ _ (show q8 ≠ 9 by omega), eJ35, up2_s, f0 26 k (by decide) (by decide)]; have nq : q ≠ q8 := fun e2 => e (tBU b k (by omega) (by omega) (by rw [hq9, hq8, e2])); obtain ⟨q7, g7, ⟨g70, -⟩, -⟩ := tBY b (by omega); have e7 : q = q7 := Option.some.inj (hq9.symm.trans g7); rw [up2_i _ _ (show q ≠ 9 by omega), eJ35, up2_i _ _ nq]; exact hA b q (by omega) hq9) (fun b q hb9 hbn hq9 => by obtain ⟨q7, g7, ⟨g70, -⟩, -⟩ := tBY b hbn; have e7 : q = q7 := Option.some.inj (hq9.symm.trans g7); have nq : q ≠ q8 := fun e2 => absurd (tBU b k hbn (by omega) (by rw [hq9, hq8, e2])) (by omega); rw [eJ55, up2_i _ _ (show q ≠ 9 by omega), eJ35, up2_i _ _ nq]; exact hA0 b q hb9 hbn hq9) (fun b hb9 => by rw [eJ55]; by_cases e : b = k; rw [e, up2_s, eJ35, up2_i _ _ (show (28 : Nat) ≠ q8 by omega), f0 28 k (by decide) (by decide)]; rw [up2_k _ _ e, eJ35, up2_i _ _ (show (9 : Nat) ≠ q8 by omega)]; exact hA9 b (by omega)) (by rw [eJ55, eJ35]; exact (hf.up (Or.inl ⟨g8, g8n, g8T, rfl⟩)).up (Or.inr ⟨rfl, by omega⟩))
    exact lp12 (kb + 1) 0 I (by omega) (by omega) (fun b q h => absurd h (Nat.not_lt_zero _)) (fun _ _ _ _ _ => rfl) (fun b h => absurd h (Nat.not_lt_zero _)) Fr.rf
  · skip
    have hz : m_back J = (-5, J) := by unfold m_back; rw [if_pos (tIM.1.symm.trans c4)]
    refine x_bipush h dX0_back_7 (-5) rfl ?_
    exact x_iret h dX0_back_9 rfl (by rw [hz]; exact ⟨rfl, grw.rf, hT⟩)
