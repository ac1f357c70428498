/-! WALKS OF THE COMPONENT: what becomes of a thing -/
theorem p_X0_69 : xfp RX0 69 0 7 (tyX0 7) false := ⟨_, _, _, tyX0, rfl, by decide, in_X0, q713, rfl, tyX0_ok, nmX0, tyX0_ok 7 (by decide), rfl⟩
theorem g_X0_75 : xfg RX0 75 0 5 := ⟨_, _, _, rfl, by decide, in_X0, q711, rfl⟩
theorem n_X0_79 : xnw RX0 79 5 4 := ⟨_, _, _, tyX5, rfl, in_X5, tyX5_ok, q356, q357, q112, rfl, fun k hk => match k, hk with | 0, _ => rfl | 1, _ => rfl | 2, _ => rfl | 3, _ => rfl | j + 4, hj => absurd hj (by omega)⟩
theorem i_X0_81 : xci RX0 81 yX5_init cX5_init 5 4 := ⟨lw_meth q360, q112, q358, q359, rfl, by decide +kernel, by decide +kernel, by decide +kernel⟩
theorem p_X0_72 : xfp RX0 72 0 6 (tyX0 6) false := ⟨_, _, _, tyX0, rfl, by decide, in_X0, q712, rfl, tyX0_ok, nmX0, tyX0_ok 6 (by decide), rfl⟩
theorem m_X0_84 : xcv RX0 84 0 yX0_setTo cX0_setTo 4 (none) 3 := ⟨_, _, _, rfl, lw_V q325 q327 qs3 q99 q328, rfl, by decide +kernel, by decide +kernel, by decide +kernel⟩
set_option maxHeartbeats 4000000 in
theorem k0_become (l : Launch) (hl : l.stackTraces = false) (G : xG_T) (n : Nat) (Ty : Nat → xs_T) (F : xF_T) (hC : WC n Ty F) (I : xI_T) (L : xL_T) (J : xI_T) (M : xL_T) (b w x v : Int32) (hT : TOP n Ty I L F J M) (ho : ¬ m_isOf J b w = 0) (hf : fitW w v) (hx : m_get J b w = x) : Cg l (5) 1 4 yX0_become cX0_become 6 (some .int) G idC [.ref (xb G + 0), .int w, .int b, .int x, .int v] n Ty I L F (pT n Ty (.int (x)) ((if x = v then J else m_note (m_shf (m_bec J b w v)) b w x v)) (M)) := by
  refine Cg.intro (cls := RX0) (pad := 1) (lv := [some (.ref (xb G + 0)), some (.int w), some (.int b), some (.int x), some (.int v), none]) rfl (by decide) (Nat.le_of_ble_eq_true rfl) rfl (fun Θ h => ?_)
  have hQ := hT.Q
  have hI0 : I 0 1 = J 70 0 := hQ.1.1.1
  have hb := hQ.2.2.1.1
  obtain ⟨nb, hnb, enb, enx, hnI⟩ := hQ.nb
  have ekB : ∀ o : Int32, k_isB I o = m_isB J o := isB_k hI0
  have ⟨tC, tNU, tNO, tBY, tKL, tWW, tRB, tBU, tCH, tTA, tLE, tIM, tBO, tTR, tSH, tFR⟩ := hT
  refine x_iload_n h dX0_become_0 rfl ?_
  refine x_iload h dX0_become_1 rfl ?_
  refine x_icmp_ne h 8 dX0_become_3 rfl (fun c3 => ?_) (fun c3 => ?_)
  · skip
    have hz : (if x = v then J else m_note (m_shf (m_bec J b w v)) b w x v) = m_note (m_shf (m_bec J b w v)) b w x v := if_neg c3
    obtain ⟨d0, u0, ⟨ch1, ch2, ch3, ch4, ch5⟩, chc, chw⟩ := tCH
    obtain ⟨q0, hq70, hqn, hq0⟩ := hT.cell ho
    refine x_aload_n h dX0_become_8 rfl ?_
    refine x_iconst h dX0_become_9 (0) rfl ?_
    refine x_puti h p_X0_69 (mlt hC.1 rfl) (hC.2.1 _ _ rfl) rfl rfl rfl dX0_become_10 (fun J10 eJ10 => ?_)
    refine x_aload_n h dX0_become_13 rfl ?_
    refine x_geti h g_X0_72 (mlt hC.1 rfl) (hC.2.1 _ _ rfl) rfl dX0_become_14 ?_
    refine x_eqi (nI d0) (by rw [eJ10, up2_k _ _ (by decide)]; exact ch4) ?_
    refine x_bipush h dX0_become_17 (40) rfl ?_
    have cut64 : ∀ (d e : Nat) (A : xF_T) (B : xI_T), ((e = 0 ∧ J 70 29 = nI d ∧ d < 40) ∨ (e = 1 ∧ d = 39 ∧ J 70 29 = nI 40)) → (∀ k : Nat, k < d → A 2 k = F 2 (k + e)) → (∀ c s : Nat, c ≠ 2 → A c s = F c s) → (B 0 6 = nI d) → (B 0 7 = 0) → (∀ c s : Nat, ¬ (c = 0 ∧ (s = 6 ∨ s = 7)) → B c s = I c s) → X Θ 0 0 n Ty B L A 64 [some (.ref (xb G + 0)), some (.int w), some (.int b), some (.int x), some (.int v), none] [] := by
      intro d e A B hde hA hA0 hB6 hB7 hB0
      have hCA : WC n Ty A := tC.w grw.rf (fun q k z _ z2 _ _ _ => hA0 q k z2)
      have hd40 : d < 40 := by omega
      have hn103 : 103 ≤ n := tC.1
      refine x_aload_n h dX0_become_64 rfl ?_
      refine x_getr h (j := 2) g_X0_75 (mlt hCA.1 rfl) (hCA.2.1 _ _ rfl) (by decide) (hCA.2.2 _ _ _ rfl) dX0_become_65 ?_
      refine x_aload_n h dX0_become_68 rfl ?_
      refine x_geti h g_X0_72 (mlt hCA.1 rfl) (hCA.2.1 _ _ rfl) rfl dX0_become_69 ?_
      refine x_eqi (nI d) hB6 ?_
      refine x_new h n_X0_79 (Or.inr hCA.1) ⟨Nat.le_of_ble_eq_true rfl, Nat.le_of_ble_eq_true rfl⟩ dX0_become_72 ?_
      refine x_nmW (fun n72 Ty72 J72 F72 en72 eT72 eJ72 eF72 => ?_)
      have hC72 : WC n72 Ty72 F72 := by rw [en72, eT72, eF72]; exact hCA.nw
      have hl72 : n < n72 := by rw [en72]; exact Nat.lt_succ_self _
      have ht72 : Ty72 n = some (.inl 5) := by rw [eT72, nwT_ap, if_pos rfl]
      have hg72 : grw n n72 Ty Ty72 := by rw [en72, eT72]; exact grw.nw
      refine x_dup h dX0_become_75 rfl ?_
      refine x_iload_n h dX0_become_76 rfl ?_
      refine x_iload_n h dX0_become_77 rfl ?_
      refine x_iload_n h dX0_become_78 rfl ?_
      refine x_iload h dX0_become_79 rfl ?_
      refine x_callIEv h (As := [.int _, .int _, .int _, .int _]) (k5_init l G n72 Ty72 F72 J72 L n w b x v hl72 ht72) i_X0_81 dX0_become_81 ⟨by decide, by decide⟩ ⟨by decide, by decide⟩ rfl (Nat.le_of_ble_eq_true rfl) ?_
      refine x_nmI (fun J81 eJ81 => ?_)
      refine x_aast h (mlt hC72.1 rfl) (hC72.2.1 _ _ rfl) (by decide) rfl hl72 ht72 rfl (Or.inl rfl) (vp_in_nI hd40 (by decide)) (d) (nI_clamp (by omega)) dX0_become_84 (fun Q84 eQ84 => ?_)
      have hQ84 : WC n72 Ty72 Q84 := by rw [eQ84]; exact hC72.up (by omega)
      have h81 : ∀ c s : Nat, c ≠ n → J81 c s = B c s := fun c s z => by rw [eJ81, up2_i _ _ z, up2_i _ _ z, up2_i _ _ z, up2_i _ _ z, eJ72, nw1_r _ _ _ z]
      have h84 : ∀ c s : Nat, c ≠ n → c ≠ 2 → Q84 c s = F c s := fun c s z z2 => by rw [eQ84, up2_i _ _ z2, eF72, nw1_r _ _ _ z, hA0 c s z2]
      have hq9 : isQ n72 Ty72 Q84 b w q0 := hq0.w hg72 (fun k => h84 1 k (by omega) (by decide))
      refine x_aload_n h dX0_become_85 rfl ?_
      refine x_dup h dX0_become_86 rfl ?_
      refine x_geti h g_X0_72 (mlt hQ84.1 rfl) (hQ84.2.1 _ _ rfl) rfl dX0_become_87 ?_
      refine x_eqi (nI d) (by rw [h81 0 6 (by omega)]; exact hB6) ?_
      refine x_iconst h dX0_become_90 (1) rfl ?_
      refine x_iaddE h (nI (d + 1)) (nI_add d 1) dX0_become_91 ?_
      refine x_puti h p_X0_72 (mlt hQ84.1 rfl) (hQ84.2.1 _ _ rfl) rfl rfl rfl dX0_become_92 (fun J92 eJ92 => ?_)
      refine x_aload_n h dX0_become_95 rfl ?_
      refine x_iload_n h dX0_become_96 rfl ?_
      refine x_iload_n h dX0_become_97 rfl ?_
      refine x_iload h dX0_become_98 rfl ?_
      refine x_callVEv h (As := [.int _, .int _, .int _]) (k0_setTo l G n72 _ _ hQ84 _ _ b w v q0 hq9) m_X0_84 (mlt hQ84.1 rfl) (hQ84.2.1 _ _ rfl) dX0_become_100 ⟨by decide, by decide⟩ ⟨by decide, by decide⟩ rfl (Nat.le_of_ble_eq_true rfl) ?_
      refine x_nmI (fun J100 eJ100 => ?_)
      refine x_iload_n h dX0_become_103 rfl ?_
      have hS := hT.set ho hf hq0
      have hK29 : m_bec J b w v 70 29 = J 70 29 := bec_87 (by omega)
      have hK0 : m_bec J b w v 70 0 = J 70 0 := bec_87 (by omega)
      have hI100 : ∀ c s : Nat, c ≠ n → ¬ (c = 0 ∧ (s = 6 ∨ s = 7)) → J100 c s = kset I w q0 v c s := fun c s z z2 => by rw [eJ100]; exact kset_c (by rw [eJ92, up2_n _ _ (by omega), h81 c s z, hB0 c s z2])
      have hJ0 : ∀ s : Nat, 6 ≤ s → J100 0 s = J92 0 s := fun s z => by rw [eJ100, kset_o (by omega) (by omega)]
      have hJn : ∀ s : Nat, J100 n s = J81 n s := fun s => by rw [eJ100, kset_o (by omega) (by omega), eJ92, up2_i _ _ (by omega)]
      refine x_wid h (by decide) (by decide) ?_
      exact x_iret h dX0_become_104 rfl (by rw [hz]; exact ⟨rfl, hg72, hS.ch9 hg72 (fun c s z z2 => hI100 c s (by omega) z2) (fun c s z z2 => h84 c s (by omega) z2) (fun q k z => note_o z) (TCh.note (d := d) (e := e) (q := n) hS.2.2.2.2.2.2.2.2.1 (by rw [hK0]; exact hb) hg72 (by rw [hK29]; exact hde) (fun c s z1 z2 _ => hI100 c s (by omega) (by omega)) (by rw [hJ0 6 (by decide), eJ92, up2_s]) (by rw [hJ0 7 (by decide), eJ92, up2_k _ _ (by decide), h81 0 7 (by omega)]; exact hB7) (fun k hk => by rw [eQ84, up2_k _ _ (by omega), eF72, nw1_r _ _ _ (by omega)]; exact hA k hk) ⟨by rw [eQ84, up2_s], ⟨hn103, hl72⟩, ht72⟩ ⟨by rw [hJn, eJ81, up2_k _ _ (by decide), up2_k _ _ (by decide), up2_k _ _ (by decide), up2_s], by rw [hJn, eJ81, up2_k _ _ (by decide), up2_k _ _ (by decide), up2_s], by rw [hJn, eJ81, up2_k _ _ (by decide), up2_s], by rw [hJn, eJ81, up2_s]⟩ (by rw [isOf_w hK0]; exact ho) (by rw [← hx]; exact hT.fit ho) hf)⟩)
    refine x_icmp_ne h 64 dX0_become_19 rfl (fun c19 => ?_) (fun c19 => ?_)
    · skip
      have hd19 : d0 < 40 := Nat.lt_of_le_of_ne (by omega) (fun z => c19 (by rw [z]; rfl))
      obtain ⟨dd, ee, e1, e2⟩ : ∃ dd ee : Nat, dd = d0 ∧ ee = 0 := ⟨_, _, rfl, rfl⟩
      have zde : (ee = 0 ∧ J 70 29 = nI dd ∧ dd < 40) ∨ (ee = 1 ∧ dd = 39 ∧ J 70 29 = nI 40) := Or.inl ⟨e2, by rw [e1]; exact ch2, by omega⟩
      have zA : ∀ k : Nat, k < dd → F 2 k = F 2 (k + ee) := fun k _ => by rw [e2]; rfl
      have zA0 : ∀ c s : Nat, c ≠ 2 → F c s = F c s := fun _ _ _ => rfl
      have zB6 : J10 0 6 = nI dd := by rw [eJ10, up2_k _ _ (by decide), e1]; exact ch4
      have zB7 : J10 0 7 = 0 := by rw [eJ10, up2_s]
      have zB0 : ∀ c s : Nat, ¬ (c = 0 ∧ (s = 6 ∨ s = 7)) → J10 c s = I c s := fun c s z => by rw [eJ10, up2_n _ _ (by omega)]
      exact cut64 dd ee F J10 zde zA zA0 zB6 zB7 zB0
    · skip
      have hd19 : d0 = 40 := by have y := congrArg ix (show nI d0 = nI 40 from c19); rw [ix_n (by omega), ix_n (by omega)] at y; exact y
      obtain ⟨dd, ee, e1, e2⟩ : ∃ dd ee : Nat, dd = 39 ∧ ee = 1 := ⟨_, _, rfl, rfl⟩
      refine x_iconst h dX0_become_22 (1) rfl ?_
      refine x_istore h dX0_become_23 (by decide) [some (.ref (xb G + 0)), some (.int w), some (.int b), some (.int x), some (.int v), some (.int 1)] rfl ?_
      have lp25 : ∀ (d : Nat) (k : Nat) (A : xF_T), 40 - k < d → (1 ≤ k ∧ k ≤ 40) → (∀ j : Nat, j + 1 < k → A 2 j = F 2 (j + 1)) → (∀ j : Nat, k ≤ j + 1 → A 2 j = F 2 j) → (∀ c s : Nat, c ≠ 2 → A c s = F c s) → X Θ 0 0 n Ty J10 L A 25 [some (.ref (xb G + 0)), some (.int w), some (.int b), some (.int x), some (.int v), some (.int (nI k))] [] := by
        intro d
        induction d with
        | zero =>
          intro k A hlt
          exact absurd hlt (Nat.not_lt_zero _)
        | succ d ih =>
          intro k A hlt hk hA hA2 hA0
          have hCA : WC n Ty A := tC.w grw.rf (fun q k z _ z2 _ _ _ => hA0 q k z2)
          refine x_iload h dX0_become_25 rfl ?_
          refine x_bipush h dX0_become_27 (40) rfl ?_
          refine x_icmp_ge h 54 dX0_become_29 rfl (fun c29 => ?_) (fun c29 => ?_)
          · skip
            have hk40 : k = 40 := by have y := (nI_leI (a := 40) (b := k) (by omega) (by omega)).mp c29; omega
            refine x_aload_n h dX0_become_54 rfl ?_
            refine x_dup h dX0_become_55 rfl ?_
            refine x_geti h g_X0_72 (mlt hCA.1 rfl) (hCA.2.1 _ _ rfl) rfl dX0_become_56 ?_
            refine x_iconst h dX0_become_59 (1) rfl ?_
            refine x_isubE h (nI 39) (by rw [eJ10, up2_k _ _ (by decide), ch4, hd19]; rfl) dX0_become_60 ?_
            refine x_puti h p_X0_72 (mlt hCA.1 rfl) (hCA.2.1 _ _ rfl) rfl rfl rfl dX0_become_61 (fun J61 eJ61 => ?_)
            have zde : (ee = 0 ∧ J 70 29 = nI dd ∧ dd < 40) ∨ (ee = 1 ∧ dd = 39 ∧ J 70 29 = nI 40) := Or.inr ⟨e2, e1, by rw [← hd19]; exact ch2⟩
            have zA : ∀ j : Nat, j < dd → A 2 j = F 2 (j + ee) := fun j hj => by rw [e2]; exact hA j (by omega)
            have zA0 := hA0
            have zB6 : J61 0 6 = nI dd := by rw [eJ61, up2_s, e1]
            have zB7 : J61 0 7 = 0 := by rw [eJ61, up2_k _ _ (by decide), eJ10, up2_s]
            have zB0 : ∀ c s : Nat, ¬ (c = 0 ∧ (s = 6 ∨ s = 7)) → J61 c s = I c s := fun c s z => by rw [eJ61, up2_n _ _ (by omega), eJ10, up2_n _ _ (by omega)]
            refine x_wk (lv := [some (.ref (xb G + 0)), some (.int w), some (.int b), some (.int x), some (.int v), none]) ?_ ⟨rfl, rfl, rfl, rfl, rfl, trivial⟩
            exact cut64 dd ee A J61 zde zA zA0 zB6 zB7 zB0
          · skip
            have hk40 : k < 40 := Nat.lt_of_not_le fun y => c29 ((nI_leI (a := 40) (by omega) (by omega)).mpr y)
            obtain ⟨q9, hq9, ⟨-, q9n⟩, q9T, -⟩ := chc k (by omega)
            refine x_aload_n h dX0_become_32 rfl ?_
            refine x_getr h (j := 2) g_X0_75 (mlt hCA.1 rfl) (hCA.2.1 _ _ rfl) (by decide) (hCA.2.2 _ _ _ rfl) dX0_become_33 ?_
            refine x_iload h dX0_become_36 rfl ?_
            refine x_iconst h dX0_become_38 (1) rfl ?_
            refine x_isubE h (nI (k - 1)) (nI_m1 hk.1) dX0_become_39 ?_
            refine x_aload_n h dX0_become_40 rfl ?_
            refine x_getr h (j := 2) g_X0_75 (mlt hCA.1 rfl) (hCA.2.1 _ _ rfl) (by decide) (hCA.2.2 _ _ _ rfl) dX0_become_41 ?_
            refine x_iload h dX0_become_44 rfl ?_
            refine x_aaldr h (q := q9) (mlt hCA.1 rfl) (hCA.2.1 _ _ rfl) (by decide) rfl rfl (vp_in_nI (show k < 40 by omega) (by decide)) (k) (nI_clamp (by omega)) ((hA2 k (by omega)).trans hq9) dX0_become_46 ?_
            refine x_aast h (mlt hCA.1 rfl) (hCA.2.1 _ _ rfl) (by decide) rfl q9n q9T rfl (Or.inl rfl) (vp_in_nI (show k - 1 < 40 by omega) (by decide)) (k - 1) (nI_clamp (by omega)) dX0_become_47 (fun Q47 eQ47 => ?_)
            have hQ47 : WC n Ty Q47 := by rw [eQ47]; exact hCA.up (by omega)
            refine x_iinc h dX0_become_48 (by decide) rfl (nI (k + 1)) (nI_1 k) [some (.ref (xb G + 0)), some (.int w), some (.int b), some (.int x), some (.int v), some (.int (nI (k + 1)))] rfl ?_
            refine x_goto h 25 dX0_become_51 rfl ?_
            exact ih (k + 1) Q47 (by omega) ⟨by omega, by omega⟩ (fun j hj => by rw [eQ47]; by_cases e : j = k - 1; rw [e, up2_s, show k - 1 + 1 = k by omega]; exact hq9.symm; rw [up2_k _ _ e]; exact hA j (by omega)) (fun j hj => by rw [eQ47, up2_k _ _ (by omega)]; exact hA2 j (by omega)) (fun c s z => by rw [eQ47, up2_i _ _ z]; exact hA0 c s z)
      exact lp25 40 1 F (by decide) ⟨by decide, by decide⟩ (fun j hj => absurd hj (by omega)) (fun _ _ => rfl) (fun _ _ _ => rfl)
  · skip
    have hz : (if x = v then J else m_note (m_shf (m_bec J b w v)) b w x v) = J := if_pos c3
    refine x_iload_n h dX0_become_6 rfl ?_
    refine x_wid h (by decide) (by decide) ?_
    exact x_iret h dX0_become_7 rfl (by rw [hz]; exact ⟨rfl, grw.rf, hT⟩)
