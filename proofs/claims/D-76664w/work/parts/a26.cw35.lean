/-! WALKS OF THE COMPONENT: places of rows -/
theorem u_X0_500_X24 : xcu RX0 500 24 "ThirdAfter$Row" ⟨"ThirdAfter$Row", "put", "(IJ)Z"⟩ yX24_put cX24_put 4 (some .boolean) 2 := ⟨_, _, _, rfl, lw_app (a := [.methodLink RX0 500 ⟨"ThirdAfter$Row", "put", "(IJ)Z"⟩, .sameMethod "ThirdAfter$Row" "ThirdAfter$Row" "put" "(IJ)Z", .selects RX24 ⟨"ThirdAfter$Row", "put", "(IJ)Z"⟩ yX24_put, .instanceMethod yX24_put, .initialized RX24]) (List.forall_mem_cons.mpr ⟨q1538, List.forall_mem_cons.mpr ⟨q1540, List.forall_mem_cons.mpr ⟨q1544, List.forall_mem_cons.mpr ⟨q1545, List.forall_mem_cons.mpr ⟨q139, fun w h => absurd h List.not_mem_nil⟩⟩⟩⟩⟩) (lw_meth q1546), by decide +kernel, by decide +kernel, by decide +kernel, Or.inr (Or.inr q1539)⟩
theorem u_X0_500_X25 : xcu RX0 500 25 "ThirdAfter$Row" ⟨"ThirdAfter$Row", "put", "(IJ)Z"⟩ yX25_put cX25_put 4 (some .boolean) 2 := ⟨_, _, _, rfl, lw_app (a := [.methodLink RX0 500 ⟨"ThirdAfter$Row", "put", "(IJ)Z"⟩, .sameMethod "ThirdAfter$Row" "ThirdAfter$Row" "put" "(IJ)Z", .selects RX25 ⟨"ThirdAfter$Row", "put", "(IJ)Z"⟩ yX25_put, .instanceMethod yX25_put, .initialized RX25]) (List.forall_mem_cons.mpr ⟨q1538, List.forall_mem_cons.mpr ⟨q1540, List.forall_mem_cons.mpr ⟨q1553, List.forall_mem_cons.mpr ⟨q1554, List.forall_mem_cons.mpr ⟨q140, fun w h => absurd h List.not_mem_nil⟩⟩⟩⟩⟩) (lw_meth q1555), by decide +kernel, by decide +kernel, by decide +kernel, Or.inr (Or.inr q1539)⟩
theorem u_X0_500_X26 : xcu RX0 500 26 "ThirdAfter$Row" ⟨"ThirdAfter$Row", "put", "(IJ)Z"⟩ yX26_put cX26_put 4 (some .boolean) 2 := ⟨_, _, _, rfl, lw_app (a := [.methodLink RX0 500 ⟨"ThirdAfter$Row", "put", "(IJ)Z"⟩, .sameMethod "ThirdAfter$Row" "ThirdAfter$Row" "put" "(IJ)Z", .selects RX26 ⟨"ThirdAfter$Row", "put", "(IJ)Z"⟩ yX26_put, .instanceMethod yX26_put, .initialized RX26]) (List.forall_mem_cons.mpr ⟨q1538, List.forall_mem_cons.mpr ⟨q1540, List.forall_mem_cons.mpr ⟨q1547, List.forall_mem_cons.mpr ⟨q1548, List.forall_mem_cons.mpr ⟨q141, fun w h => absurd h List.not_mem_nil⟩⟩⟩⟩⟩) (lw_meth q1549), by decide +kernel, by decide +kernel, by decide +kernel, Or.inr (Or.inr q1539)⟩
theorem u_X0_500_X27 : xcu RX0 500 27 "ThirdAfter$Row" ⟨"ThirdAfter$Row", "put", "(IJ)Z"⟩ yX27_put cX27_put 4 (some .boolean) 2 := ⟨_, _, _, rfl, lw_app (a := [.methodLink RX0 500 ⟨"ThirdAfter$Row", "put", "(IJ)Z"⟩, .sameMethod "ThirdAfter$Row" "ThirdAfter$Row" "put" "(IJ)Z", .selects RX27 ⟨"ThirdAfter$Row", "put", "(IJ)Z"⟩ yX27_put, .instanceMethod yX27_put, .initialized RX27]) (List.forall_mem_cons.mpr ⟨q1538, List.forall_mem_cons.mpr ⟨q1540, List.forall_mem_cons.mpr ⟨q1550, List.forall_mem_cons.mpr ⟨q1551, List.forall_mem_cons.mpr ⟨q142, fun w h => absurd h List.not_mem_nil⟩⟩⟩⟩⟩) (lw_meth q1552), by decide +kernel, by decide +kernel, by decide +kernel, Or.inr (Or.inr q1539)⟩
theorem u_X0_500_X28 : xcu RX0 500 28 "ThirdAfter$Row" ⟨"ThirdAfter$Row", "put", "(IJ)Z"⟩ yX28_put cX28_put 4 (some .boolean) 2 := ⟨_, _, _, rfl, lw_app (a := [.methodLink RX0 500 ⟨"ThirdAfter$Row", "put", "(IJ)Z"⟩, .sameMethod "ThirdAfter$Row" "ThirdAfter$Row" "put" "(IJ)Z", .selects RX28 ⟨"ThirdAfter$Row", "put", "(IJ)Z"⟩ yX28_put, .instanceMethod yX28_put, .initialized RX28]) (List.forall_mem_cons.mpr ⟨q1538, List.forall_mem_cons.mpr ⟨q1540, List.forall_mem_cons.mpr ⟨q1541, List.forall_mem_cons.mpr ⟨q1542, List.forall_mem_cons.mpr ⟨q143, fun w h => absurd h List.not_mem_nil⟩⟩⟩⟩⟩) (lw_meth q1543), by decide +kernel, by decide +kernel, by decide +kernel, Or.inr (Or.inr q1539)⟩
theorem u_X0_508_X24 : xcu RX0 508 24 "ThirdAfter$Row" ⟨"ThirdAfter$Row", "at", "(I)J"⟩ yX24_at cX24_at 2 (some .long) 1 := ⟨_, _, _, rfl, lw_app (a := [.methodLink RX0 508 ⟨"ThirdAfter$Row", "at", "(I)J"⟩, .sameMethod "ThirdAfter$Row" "ThirdAfter$Row" "at" "(I)J", .selects RX24 ⟨"ThirdAfter$Row", "at", "(I)J"⟩ yX24_at, .instanceMethod yX24_at, .initialized RX24]) (List.forall_mem_cons.mpr ⟨q1561, List.forall_mem_cons.mpr ⟨q1563, List.forall_mem_cons.mpr ⟨q1567, List.forall_mem_cons.mpr ⟨q861, List.forall_mem_cons.mpr ⟨q139, fun w h => absurd h List.not_mem_nil⟩⟩⟩⟩⟩) (lw_meth q863), by decide +kernel, by decide +kernel, by decide +kernel, Or.inr (Or.inr q1562)⟩
theorem u_X0_508_X25 : xcu RX0 508 25 "ThirdAfter$Row" ⟨"ThirdAfter$Row", "at", "(I)J"⟩ yX25_at cX25_at 2 (some .long) 1 := ⟨_, _, _, rfl, lw_app (a := [.methodLink RX0 508 ⟨"ThirdAfter$Row", "at", "(I)J"⟩, .sameMethod "ThirdAfter$Row" "ThirdAfter$Row" "at" "(I)J", .selects RX25 ⟨"ThirdAfter$Row", "at", "(I)J"⟩ yX25_at, .instanceMethod yX25_at, .initialized RX25]) (List.forall_mem_cons.mpr ⟨q1561, List.forall_mem_cons.mpr ⟨q1563, List.forall_mem_cons.mpr ⟨q1574, List.forall_mem_cons.mpr ⟨q318, List.forall_mem_cons.mpr ⟨q140, fun w h => absurd h List.not_mem_nil⟩⟩⟩⟩⟩) (lw_meth q320), by decide +kernel, by decide +kernel, by decide +kernel, Or.inr (Or.inr q1562)⟩
theorem u_X0_508_X26 : xcu RX0 508 26 "ThirdAfter$Row" ⟨"ThirdAfter$Row", "at", "(I)J"⟩ yX26_at cX26_at 2 (some .long) 1 := ⟨_, _, _, rfl, lw_app (a := [.methodLink RX0 508 ⟨"ThirdAfter$Row", "at", "(I)J"⟩, .sameMethod "ThirdAfter$Row" "ThirdAfter$Row" "at" "(I)J", .selects RX26 ⟨"ThirdAfter$Row", "at", "(I)J"⟩ yX26_at, .instanceMethod yX26_at, .initialized RX26]) (List.forall_mem_cons.mpr ⟨q1561, List.forall_mem_cons.mpr ⟨q1563, List.forall_mem_cons.mpr ⟨q1568, List.forall_mem_cons.mpr ⟨q1569, List.forall_mem_cons.mpr ⟨q141, fun w h => absurd h List.not_mem_nil⟩⟩⟩⟩⟩) (lw_meth q1570), by decide +kernel, by decide +kernel, by decide +kernel, Or.inr (Or.inr q1562)⟩
theorem u_X0_508_X27 : xcu RX0 508 27 "ThirdAfter$Row" ⟨"ThirdAfter$Row", "at", "(I)J"⟩ yX27_at cX27_at 2 (some .long) 1 := ⟨_, _, _, rfl, lw_app (a := [.methodLink RX0 508 ⟨"ThirdAfter$Row", "at", "(I)J"⟩, .sameMethod "ThirdAfter$Row" "ThirdAfter$Row" "at" "(I)J", .selects RX27 ⟨"ThirdAfter$Row", "at", "(I)J"⟩ yX27_at, .instanceMethod yX27_at, .initialized RX27]) (List.forall_mem_cons.mpr ⟨q1561, List.forall_mem_cons.mpr ⟨q1563, List.forall_mem_cons.mpr ⟨q1571, List.forall_mem_cons.mpr ⟨q1572, List.forall_mem_cons.mpr ⟨q142, fun w h => absurd h List.not_mem_nil⟩⟩⟩⟩⟩) (lw_meth q1573), by decide +kernel, by decide +kernel, by decide +kernel, Or.inr (Or.inr q1562)⟩
theorem u_X0_508_X28 : xcu RX0 508 28 "ThirdAfter$Row" ⟨"ThirdAfter$Row", "at", "(I)J"⟩ yX28_at cX28_at 2 (some .long) 1 := ⟨_, _, _, rfl, lw_app (a := [.methodLink RX0 508 ⟨"ThirdAfter$Row", "at", "(I)J"⟩, .sameMethod "ThirdAfter$Row" "ThirdAfter$Row" "at" "(I)J", .selects RX28 ⟨"ThirdAfter$Row", "at", "(I)J"⟩ yX28_at, .instanceMethod yX28_at, .initialized RX28]) (List.forall_mem_cons.mpr ⟨q1561, List.forall_mem_cons.mpr ⟨q1563, List.forall_mem_cons.mpr ⟨q1564, List.forall_mem_cons.mpr ⟨q1565, List.forall_mem_cons.mpr ⟨q143, fun w h => absurd h List.not_mem_nil⟩⟩⟩⟩⟩) (lw_meth q1566), by decide +kernel, by decide +kernel, by decide +kernel, Or.inr (Or.inr q1562)⟩
set_option maxHeartbeats 4000000 in
theorem k0_put (l : Launch) (hl : l.stackTraces = false) (G : xG_T) (n : Nat) (Ty : Nat → xs_T) (F : xF_T) (hC : WC n Ty F) (I : xI_T) (L : xL_T) (J : xI_T) (M : xL_T) (s i : Int32) (v : Int64) (hT : TOP n Ty I L F J M) : CgW l 210 3 1010 yX0_put cX0_put 6 (some .int) [(9, 31, 32, 47), (9, 31, 37, 45), (9, 31, 42, 49)] G idC [.ref (xb G + 0), .int s, .int i, .long v] n Ty I L F (pT n Ty (.int (m_put J s i)) (J) (m_putL J M s i v)) := by
  refine CgW.intro (cls := RX0) (pad := 1) (lv := [some (.ref (xb G + 0)), some (.int s), some (.int i), some (.long v), none, none]) rfl (by decide) (Nat.le_of_ble_eq_true rfl) rfl (fun Θ h hTb => ?_)
  refine x_iload_n h dX0_put_0 rfl ?_
  refine x_callSEi h (As := [.int _]) (k0_isShelf l G n _ _ hC _ _ _ ) m_X0_29 dX0_put_1 ⟨by decide, by decide⟩ ⟨by decide, by decide⟩ rfl (Nat.le_of_ble_eq_true rfl) ?_
  refine x_if_ne h 9 dX0_put_4 rfl (fun c4 => ?_) (fun c4 => ?_)
  · skip
    obtain ⟨s9, hs9, rfl⟩ := isB_s c4
    refine x_aload_n h dX0_put_9 rfl ?_
    refine x_getr h (j := 33) g_X0_32 (mlt hC.1 rfl) (hC.2.1 _ _ rfl) (by decide) (hC.2.2 _ _ _ rfl) dX0_put_10 ?_
    refine x_iload_n h dX0_put_13 rfl ?_
    rcases (hT.S s9 hs9).kinds with ⟨hnul, h90⟩ | ⟨q, a, z, hr⟩ | ⟨q, a, z, hr⟩ | ⟨q, a, z, hr⟩ | ⟨q, a, z, hr⟩ | ⟨q, a, z, hr⟩ | ⟨q, c, b, hq, hqn, hqT, hc, h90, hb50, hq32⟩
    · skip
      have hm : m_put J (nI s9) i = -11 := by unfold m_put; rw [if_neg c4, ix_n (by omega), if_pos h90]
      have hmL : m_putL J M (nI s9) i v = M := by unfold m_putL; rw [if_neg (by rw [hm]; decide)]
      refine x_aaldn h (mlt hC.1 rfl) (hC.2.1 _ _ rfl) (by decide) rfl rfl (vp_in_nI hs9 (by decide)) (s9) (nI_clamp (by omega)) hnul dX0_put_14 ?_
      refine x_castN h dX0_put_15 ?_
      refine x_iload_n h dX0_put_18 rfl ?_
      refine x_lload_n h dX0_put_19 rfl ?_
      refine x_invN h (As := [.int _, .long _]) q1538 ⟨Or.inr ⟨q1539, q1540⟩, by decide, by decide⟩ (show Option.map (fun d => d.parameters.length) (parseMethodDescriptor "(IJ)Z") = some 2 from by decide +kernel) dX0_put_20 (x_noteN h hl (by decide) ⟨by decide, by decide⟩ (Nat.le_of_ble_eq_true rfl) (fun n9 hn99 => XN.catch h hTb (pre := []) (x := ⟨9, 31, 32, 47⟩) (suf := _) rfl (fun z hz => absurd hz List.not_mem_nil) (by decide) (by decide) q269 q291 (fun a9 => ?_)))
      refine x_astore h dX0_put_32 (by decide) [some (.ref (xb G + 0)), some (.int (nI s9)), some (.int i), some (.long v), none, some (.ref a9)] rfl ?_
      refine x_bipush h dX0_put_34 (-11) rfl ?_
      refine x_wid h (by decide) (by decide) ?_
      exact x_iret h dX0_put_36 rfl (by rw [hm, hmL]; exact ⟨rfl, grw.xt hn99, hT.gr hn99⟩)
    · skip
      have ⟨⟨r1, r2, hqn, r4, hqT⟩, r6, ⟨r7, r8, r9, r10, r11, r12⟩, r13⟩ := hr
      refine x_aaldr h (q := q) (mlt hC.1 rfl) (hC.2.1 _ _ rfl) (by decide) rfl rfl (vp_in_nI hs9 (by decide)) (s9) (nI_clamp (by omega)) r1 dX0_put_14 ?_
      refine x_cast h q1537 hqn hqT (rfl) q2261 dX0_put_15 ?_
      rcases Classical.em (vp_in i z) with hin | hin
      · skip
        have hm : m_put J (nI s9) i = 1 := by unfold m_put; rw [if_neg c4, ix_n (by omega), r6, if_neg (nI_m9 (by decide)), if_neg ((isRow_t hs9 r6 (by decide)).mpr (by decide)), r11, if_neg ((inR_vp r10).mpr hin)]
        obtain ⟨x, hx, ex⟩ := vp_in_of hin (by omega)
        subst ex
        have hmL : m_putL J M (nI s9) (nI x) v = up2 M 92 (60 * s9 + x) (m_kept (nI 0) v) := by unfold m_putL; rw [if_pos hm, ix_n (by omega), ix_n (by omega), r6]
        refine x_iload_n h dX0_put_18 rfl ?_
        refine x_lload_n h dX0_put_19 rfl ?_
        refine x_callUEi h (As := [.int _, .long _]) (k24_put l G n _ _ hC _ _ q a z (nI x) v hqn hqT r7 r9 r12 hin) u_X0_500_X24 hqn hqT dX0_put_20 ⟨by decide, by decide⟩ ⟨by decide, by decide⟩ rfl (Nat.le_of_ble_eq_true rfl) ?_
        refine x_nmI (fun J20 eJ20 => ?_)
        refine x_nmL (fun M20 eM20 => ?_)
        refine x_if_eq h 30 dX0_put_23 rfl (fun c23 => ?_) (fun c23 => ?_)
        · exact absurd c23 (by decide)
        · skip
          refine x_iconst h dX0_put_26 (1) rfl ?_
          refine x_goto h 31 dX0_put_27 rfl ?_
          refine x_wid h (by decide) (by decide) ?_
          exact x_iret h dX0_put_31 rfl (by rw [hm, hmL]; exact ⟨rfl, grw.rf, hT.put hs9 hr hx (fun c k y => by rw [eJ20, ix_n (by omega), up2_n _ _ y]) (fun c k y => by rw [eM20]) (by rw [if_neg (by decide), eJ20, ix_n (by omega), up2_s, nar_b, kept_v (by decide)]; rfl) (fun _ => by rw [eJ20, ix_n (by omega), up2_s, nar_b]; exact pk_fb _)⟩)
      · skip
        have hm : m_put J (nI s9) i = -13 := by unfold m_put; rw [if_neg c4, ix_n (by omega), r6, if_neg (nI_m9 (by decide)), if_neg ((isRow_t hs9 r6 (by decide)).mpr (by decide)), r11, if_pos (Classical.byContradiction fun y => hin ((inR_vp r10).mp y))]
        have hmL : m_putL J M (nI s9) i v = M := by unfold m_putL; rw [if_neg (by rw [hm]; decide)]
        refine x_iload_n h dX0_put_18 rfl ?_
        refine x_lload_n h dX0_put_19 rfl ?_
        refine x_callUX h (As := [.int _, .long _]) (k24_putZ l hl G n _ _ hC _ _ q a z i v hqn hqT r7 r9 r12 r10 hin) u_X0_500_X24 hqn hqT dX0_put_20 ⟨by decide, by decide⟩ ⟨by omega, by omega⟩ rfl (Nat.le_of_ble_eq_true rfl) (fun E20 m20 Ty20 J20 L20 F20 hpx => ?_) (fun _ _ _ _ _ _ hp => absurd hp id)
        obtain ⟨rfl, hn20, rfl, rfl, rfl, rfl⟩ := hpx
        refine XN.catch h hTb (pre := [⟨9, 31, 32, 47⟩, ⟨9, 31, 37, 45⟩]) (x := ⟨9, 31, 42, 49⟩) (suf := _) rfl (fun z hz => by
            rcases List.mem_cons.mp hz with rfl | hz
            · exact Or.inr ⟨by decide, _, q269, by decide +kernel⟩
            · rcases List.mem_cons.mp hz with rfl | hz
              · exact Or.inr ⟨by decide, _, q184, by decide +kernel⟩
              · cases hz) (by decide) (by decide) q294 q2259 (fun a9 => ?_)
        refine x_astore h dX0_put_42 (by decide) [some (.ref (xb G + 0)), some (.int (nI s9)), some (.int i), some (.long v), none, some (.ref a9)] rfl ?_
        refine x_bipush h dX0_put_44 (-13) rfl ?_
        refine x_wid h (by decide) (by decide) ?_
        exact x_iret h dX0_put_46 rfl (by rw [hm, hmL]; exact ⟨rfl, grw.xt hn20, hT.gr hn20⟩)
    · skip
      have ⟨⟨r1, r2, hqn, r4, hqT⟩, r6, ⟨r7, r8, r9, r10, r11, r12⟩, r13⟩ := hr
      refine x_aaldr h (q := q) (mlt hC.1 rfl) (hC.2.1 _ _ rfl) (by decide) rfl rfl (vp_in_nI hs9 (by decide)) (s9) (nI_clamp (by omega)) r1 dX0_put_14 ?_
      refine x_cast h q1537 hqn hqT (rfl) q2264 dX0_put_15 ?_
      rcases Classical.em (vp_in i z) with hin | hin
      · skip
        have hm : m_put J (nI s9) i = 1 := by unfold m_put; rw [if_neg c4, ix_n (by omega), r6, if_neg (nI_m9 (by decide)), if_neg ((isRow_t hs9 r6 (by decide)).mpr (by decide)), r11, if_neg ((inR_vp r10).mpr hin)]
        obtain ⟨x, hx, ex⟩ := vp_in_of hin (by omega)
        subst ex
        have hmL : m_putL J M (nI s9) (nI x) v = up2 M 92 (60 * s9 + x) (m_kept (nI 1) v) := by unfold m_putL; rw [if_pos hm, ix_n (by omega), ix_n (by omega), r6]
        refine x_iload_n h dX0_put_18 rfl ?_
        refine x_lload_n h dX0_put_19 rfl ?_
        refine x_callUEi h (As := [.int _, .long _]) (k25_put l G n _ _ hC _ _ q a z (nI x) v hqn hqT r7 r9 r12 hin) u_X0_500_X25 hqn hqT dX0_put_20 ⟨by decide, by decide⟩ ⟨by decide, by decide⟩ rfl (Nat.le_of_ble_eq_true rfl) ?_
        refine x_nmI (fun J20 eJ20 => ?_)
        refine x_nmL (fun M20 eM20 => ?_)
        refine x_if_eq h 30 dX0_put_23 rfl (fun c23 => ?_) (fun c23 => ?_)
        · exact absurd c23 (by decide)
        · skip
          refine x_iconst h dX0_put_26 (1) rfl ?_
          refine x_goto h 31 dX0_put_27 rfl ?_
          refine x_wid h (by decide) (by decide) ?_
          exact x_iret h dX0_put_31 rfl (by rw [hm, hmL]; exact ⟨rfl, grw.rf, hT.put hs9 hr hx (fun c k y => by rw [eJ20, ix_n (by omega), up2_n _ _ y]) (fun c k y => by rw [eM20]) (by rw [if_neg (by decide), eJ20, ix_n (by omega), up2_s, nar_s, kept_v (by decide)]; rfl) (fun _ => by rw [eJ20, ix_n (by omega), up2_s, nar_s]; exact pk_fs _)⟩)
      · skip
        have hm : m_put J (nI s9) i = -13 := by unfold m_put; rw [if_neg c4, ix_n (by omega), r6, if_neg (nI_m9 (by decide)), if_neg ((isRow_t hs9 r6 (by decide)).mpr (by decide)), r11, if_pos (Classical.byContradiction fun y => hin ((inR_vp r10).mp y))]
        have hmL : m_putL J M (nI s9) i v = M := by unfold m_putL; rw [if_neg (by rw [hm]; decide)]
        refine x_iload_n h dX0_put_18 rfl ?_
        refine x_lload_n h dX0_put_19 rfl ?_
        refine x_callUX h (As := [.int _, .long _]) (k25_putZ l hl G n _ _ hC _ _ q a z i v hqn hqT r7 r9 r12 r10 hin) u_X0_500_X25 hqn hqT dX0_put_20 ⟨by decide, by decide⟩ ⟨by omega, by omega⟩ rfl (Nat.le_of_ble_eq_true rfl) (fun E20 m20 Ty20 J20 L20 F20 hpx => ?_) (fun _ _ _ _ _ _ hp => absurd hp id)
        obtain ⟨rfl, hn20, rfl, rfl, rfl, rfl⟩ := hpx
        refine XN.catch h hTb (pre := [⟨9, 31, 32, 47⟩, ⟨9, 31, 37, 45⟩]) (x := ⟨9, 31, 42, 49⟩) (suf := _) rfl (fun z hz => by
            rcases List.mem_cons.mp hz with rfl | hz
            · exact Or.inr ⟨by decide, _, q269, by decide +kernel⟩
            · rcases List.mem_cons.mp hz with rfl | hz
              · exact Or.inr ⟨by decide, _, q184, by decide +kernel⟩
              · cases hz) (by decide) (by decide) q294 q2259 (fun a9 => ?_)
        refine x_astore h dX0_put_42 (by decide) [some (.ref (xb G + 0)), some (.int (nI s9)), some (.int i), some (.long v), none, some (.ref a9)] rfl ?_
        refine x_bipush h dX0_put_44 (-13) rfl ?_
        refine x_wid h (by decide) (by decide) ?_
        exact x_iret h dX0_put_46 rfl (by rw [hm, hmL]; exact ⟨rfl, grw.xt hn20, hT.gr hn20⟩)
    · skip
      have ⟨⟨r1, r2, hqn, r4, hqT⟩, r6, ⟨r7, r8, r9, r10, r11, r12⟩, r13⟩ := hr
      refine x_aaldr h (q := q) (mlt hC.1 rfl) (hC.2.1 _ _ rfl) (by decide) rfl rfl (vp_in_nI hs9 (by decide)) (s9) (nI_clamp (by omega)) r1 dX0_put_14 ?_
      refine x_cast h q1537 hqn hqT (rfl) q2262 dX0_put_15 ?_
      rcases Classical.em (vp_in i z) with hin | hin
      · skip
        have hm : m_put J (nI s9) i = 1 := by unfold m_put; rw [if_neg c4, ix_n (by omega), r6, if_neg (nI_m9 (by decide)), if_neg ((isRow_t hs9 r6 (by decide)).mpr (by decide)), r11, if_neg ((inR_vp r10).mpr hin)]
        obtain ⟨x, hx, ex⟩ := vp_in_of hin (by omega)
        subst ex
        have hmL : m_putL J M (nI s9) (nI x) v = up2 M 92 (60 * s9 + x) (m_kept (nI 2) v) := by unfold m_putL; rw [if_pos hm, ix_n (by omega), ix_n (by omega), r6]
        refine x_iload_n h dX0_put_18 rfl ?_
        refine x_lload_n h dX0_put_19 rfl ?_
        refine x_callUEi h (As := [.int _, .long _]) (k26_put l G n _ _ hC _ _ q a z (nI x) v hqn hqT r7 r9 r12 hin) u_X0_500_X26 hqn hqT dX0_put_20 ⟨by decide, by decide⟩ ⟨by decide, by decide⟩ rfl (Nat.le_of_ble_eq_true rfl) ?_
        refine x_nmI (fun J20 eJ20 => ?_)
        refine x_nmL (fun M20 eM20 => ?_)
        refine x_if_eq h 30 dX0_put_23 rfl (fun c23 => ?_) (fun c23 => ?_)
        · exact absurd c23 (by decide)
        · skip
          refine x_iconst h dX0_put_26 (1) rfl ?_
          refine x_goto h 31 dX0_put_27 rfl ?_
          refine x_wid h (by decide) (by decide) ?_
          exact x_iret h dX0_put_31 rfl (by rw [hm, hmL]; exact ⟨rfl, grw.rf, hT.put hs9 hr hx (fun c k y => by rw [eJ20, ix_n (by omega), up2_n _ _ y]) (fun c k y => by rw [eM20]) (by rw [if_neg (by decide), eJ20, ix_n (by omega), up2_s, kept_v (by decide)]; rfl) (fun _ => by rw [eJ20, ix_n (by omega), up2_s]; exact rfl)⟩)
      · skip
        have hm : m_put J (nI s9) i = -13 := by unfold m_put; rw [if_neg c4, ix_n (by omega), r6, if_neg (nI_m9 (by decide)), if_neg ((isRow_t hs9 r6 (by decide)).mpr (by decide)), r11, if_pos (Classical.byContradiction fun y => hin ((inR_vp r10).mp y))]
        have hmL : m_putL J M (nI s9) i v = M := by unfold m_putL; rw [if_neg (by rw [hm]; decide)]
        refine x_iload_n h dX0_put_18 rfl ?_
        refine x_lload_n h dX0_put_19 rfl ?_
        refine x_callUX h (As := [.int _, .long _]) (k26_putZ l hl G n _ _ hC _ _ q a z i v hqn hqT r7 r9 r12 r10 hin) u_X0_500_X26 hqn hqT dX0_put_20 ⟨by decide, by decide⟩ ⟨by omega, by omega⟩ rfl (Nat.le_of_ble_eq_true rfl) (fun E20 m20 Ty20 J20 L20 F20 hpx => ?_) (fun _ _ _ _ _ _ hp => absurd hp id)
        obtain ⟨rfl, hn20, rfl, rfl, rfl, rfl⟩ := hpx
        refine XN.catch h hTb (pre := [⟨9, 31, 32, 47⟩, ⟨9, 31, 37, 45⟩]) (x := ⟨9, 31, 42, 49⟩) (suf := _) rfl (fun z hz => by
            rcases List.mem_cons.mp hz with rfl | hz
            · exact Or.inr ⟨by decide, _, q269, by decide +kernel⟩
            · rcases List.mem_cons.mp hz with rfl | hz
              · exact Or.inr ⟨by decide, _, q184, by decide +kernel⟩
              · cases hz) (by decide) (by decide) q294 q2259 (fun a9 => ?_)
        refine x_astore h dX0_put_42 (by decide) [some (.ref (xb G + 0)), some (.int (nI s9)), some (.int i), some (.long v), none, some (.ref a9)] rfl ?_
        refine x_bipush h dX0_put_44 (-13) rfl ?_
        refine x_wid h (by decide) (by decide) ?_
        exact x_iret h dX0_put_46 rfl (by rw [hm, hmL]; exact ⟨rfl, grw.xt hn20, hT.gr hn20⟩)
    · skip
      have ⟨⟨r1, r2, hqn, r4, hqT⟩, r6, ⟨r7, r8, r9, r10, r11, r12⟩, r13⟩ := hr
      refine x_aaldr h (q := q) (mlt hC.1 rfl) (hC.2.1 _ _ rfl) (by decide) rfl rfl (vp_in_nI hs9 (by decide)) (s9) (nI_clamp (by omega)) r1 dX0_put_14 ?_
      refine x_cast h q1537 hqn hqT (rfl) q2263 dX0_put_15 ?_
      rcases Classical.em (vp_in i z) with hin | hin
      · skip
        have hm : m_put J (nI s9) i = 1 := by unfold m_put; rw [if_neg c4, ix_n (by omega), r6, if_neg (nI_m9 (by decide)), if_neg ((isRow_t hs9 r6 (by decide)).mpr (by decide)), r11, if_neg ((inR_vp r10).mpr hin)]
        obtain ⟨x, hx, ex⟩ := vp_in_of hin (by omega)
        subst ex
        have hmL : m_putL J M (nI s9) (nI x) v = up2 M 92 (60 * s9 + x) (m_kept (nI 3) v) := by unfold m_putL; rw [if_pos hm, ix_n (by omega), ix_n (by omega), r6]
        refine x_iload_n h dX0_put_18 rfl ?_
        refine x_lload_n h dX0_put_19 rfl ?_
        refine x_callUEi h (As := [.int _, .long _]) (k27_put l G n _ _ hC _ _ q a z (nI x) v hqn hqT r7 r9 r12 hin) u_X0_500_X27 hqn hqT dX0_put_20 ⟨by decide, by decide⟩ ⟨by decide, by decide⟩ rfl (Nat.le_of_ble_eq_true rfl) ?_
        refine x_nmI (fun J20 eJ20 => ?_)
        refine x_nmL (fun M20 eM20 => ?_)
        refine x_if_eq h 30 dX0_put_23 rfl (fun c23 => ?_) (fun c23 => ?_)
        · exact absurd c23 (by decide)
        · skip
          refine x_iconst h dX0_put_26 (1) rfl ?_
          refine x_goto h 31 dX0_put_27 rfl ?_
          refine x_wid h (by decide) (by decide) ?_
          exact x_iret h dX0_put_31 rfl (by rw [hm, hmL]; exact ⟨rfl, grw.rf, hT.put hs9 hr hx (fun c k y => by rw [eJ20]) (fun c k y => by rw [eM20, ix_n (by omega), up2_n _ _ y]) (by rw [if_pos rfl, eM20, ix_n (by omega), up2_s, kept_v (by decide)]; rfl) (fun y => absurd rfl y)⟩)
      · skip
        have hm : m_put J (nI s9) i = -13 := by unfold m_put; rw [if_neg c4, ix_n (by omega), r6, if_neg (nI_m9 (by decide)), if_neg ((isRow_t hs9 r6 (by decide)).mpr (by decide)), r11, if_pos (Classical.byContradiction fun y => hin ((inR_vp r10).mp y))]
        have hmL : m_putL J M (nI s9) i v = M := by unfold m_putL; rw [if_neg (by rw [hm]; decide)]
        refine x_iload_n h dX0_put_18 rfl ?_
        refine x_lload_n h dX0_put_19 rfl ?_
        refine x_callUX h (As := [.int _, .long _]) (k27_putZ l hl G n _ _ hC _ _ q a z i v hqn hqT r7 r9 r12 r10 hin) u_X0_500_X27 hqn hqT dX0_put_20 ⟨by decide, by decide⟩ ⟨by omega, by omega⟩ rfl (Nat.le_of_ble_eq_true rfl) (fun E20 m20 Ty20 J20 L20 F20 hpx => ?_) (fun _ _ _ _ _ _ hp => absurd hp id)
        obtain ⟨rfl, hn20, rfl, rfl, rfl, rfl⟩ := hpx
        refine XN.catch h hTb (pre := [⟨9, 31, 32, 47⟩, ⟨9, 31, 37, 45⟩]) (x := ⟨9, 31, 42, 49⟩) (suf := _) rfl (fun z hz => by
            rcases List.mem_cons.mp hz with rfl | hz
            · exact Or.inr ⟨by decide, _, q269, by decide +kernel⟩
            · rcases List.mem_cons.mp hz with rfl | hz
              · exact Or.inr ⟨by decide, _, q184, by decide +kernel⟩
              · cases hz) (by decide) (by decide) q294 q2259 (fun a9 => ?_)
        refine x_astore h dX0_put_42 (by decide) [some (.ref (xb G + 0)), some (.int (nI s9)), some (.int i), some (.long v), none, some (.ref a9)] rfl ?_
        refine x_bipush h dX0_put_44 (-13) rfl ?_
        refine x_wid h (by decide) (by decide) ?_
        exact x_iret h dX0_put_46 rfl (by rw [hm, hmL]; exact ⟨rfl, grw.xt hn20, hT.gr hn20⟩)
    · skip
      have ⟨⟨r1, r2, hqn, r4, hqT⟩, r6, ⟨r7, r8, r9, r10, r11, r12⟩, r13⟩ := hr
      refine x_aaldr h (q := q) (mlt hC.1 rfl) (hC.2.1 _ _ rfl) (by decide) rfl rfl (vp_in_nI hs9 (by decide)) (s9) (nI_clamp (by omega)) r1 dX0_put_14 ?_
      refine x_cast h q1537 hqn hqT (rfl) q2260 dX0_put_15 ?_
      rcases Classical.em (vp_in i z) with hin | hin
      · skip
        have hm : m_put J (nI s9) i = 1 := by unfold m_put; rw [if_neg c4, ix_n (by omega), r6, if_neg (nI_m9 (by decide)), if_neg ((isRow_t hs9 r6 (by decide)).mpr (by decide)), r11, if_neg ((inR_vp r10).mpr hin)]
        obtain ⟨x, hx, ex⟩ := vp_in_of hin (by omega)
        subst ex
        have hmL : m_putL J M (nI s9) (nI x) v = up2 M 92 (60 * s9 + x) (m_kept (nI 4) v) := by unfold m_putL; rw [if_pos hm, ix_n (by omega), ix_n (by omega), r6]
        refine x_iload_n h dX0_put_18 rfl ?_
        refine x_lload_n h dX0_put_19 rfl ?_
        refine x_callUEi h (As := [.int _, .long _]) (k28_put l G n _ _ hC _ _ q a z (nI x) v hqn hqT r7 r9 r12 hin) u_X0_500_X28 hqn hqT dX0_put_20 ⟨by decide, by decide⟩ ⟨by decide, by decide⟩ rfl (Nat.le_of_ble_eq_true rfl) ?_
        refine x_nmI (fun J20 eJ20 => ?_)
        refine x_nmL (fun M20 eM20 => ?_)
        refine x_if_eq h 30 dX0_put_23 rfl (fun c23 => ?_) (fun c23 => ?_)
        · exact absurd c23 (by decide)
        · skip
          refine x_iconst h dX0_put_26 (1) rfl ?_
          refine x_goto h 31 dX0_put_27 rfl ?_
          refine x_wid h (by decide) (by decide) ?_
          exact x_iret h dX0_put_31 rfl (by rw [hm, hmL]; exact ⟨rfl, grw.rf, hT.put hs9 hr hx (fun c k y => by rw [eJ20, ix_n (by omega), up2_n _ _ y]) (fun c k y => by rw [eM20]) (by rw [if_neg (by decide), eJ20, ix_n (by omega), up2_s, nar_z, kept_v (by decide)]; show (if v = 0 then (0 : Int32) else 1).toInt64 = if v = 0 then 0 else 1; split <;> rfl) (fun _ => by rw [eJ20, ix_n (by omega), up2_s, nar_z]; exact (by split <;> rfl))⟩)
      · skip
        have hm : m_put J (nI s9) i = -13 := by unfold m_put; rw [if_neg c4, ix_n (by omega), r6, if_neg (nI_m9 (by decide)), if_neg ((isRow_t hs9 r6 (by decide)).mpr (by decide)), r11, if_pos (Classical.byContradiction fun y => hin ((inR_vp r10).mp y))]
        have hmL : m_putL J M (nI s9) i v = M := by unfold m_putL; rw [if_neg (by rw [hm]; decide)]
        refine x_iload_n h dX0_put_18 rfl ?_
        refine x_lload_n h dX0_put_19 rfl ?_
        refine x_callUX h (As := [.int _, .long _]) (k28_putZ l hl G n _ _ hC _ _ q a z i v hqn hqT r7 r9 r12 r10 hin) u_X0_500_X28 hqn hqT dX0_put_20 ⟨by decide, by decide⟩ ⟨by omega, by omega⟩ rfl (Nat.le_of_ble_eq_true rfl) (fun E20 m20 Ty20 J20 L20 F20 hpx => ?_) (fun _ _ _ _ _ _ hp => absurd hp id)
        obtain ⟨rfl, hn20, rfl, rfl, rfl, rfl⟩ := hpx
        refine XN.catch h hTb (pre := [⟨9, 31, 32, 47⟩, ⟨9, 31, 37, 45⟩]) (x := ⟨9, 31, 42, 49⟩) (suf := _) rfl (fun z hz => by
            rcases List.mem_cons.mp hz with rfl | hz
            · exact Or.inr ⟨by decide, _, q269, by decide +kernel⟩
            · rcases List.mem_cons.mp hz with rfl | hz
              · exact Or.inr ⟨by decide, _, q184, by decide +kernel⟩
              · cases hz) (by decide) (by decide) q294 q2259 (fun a9 => ?_)
        refine x_astore h dX0_put_42 (by decide) [some (.ref (xb G + 0)), some (.int (nI s9)), some (.int i), some (.long v), none, some (.ref a9)] rfl ?_
        refine x_bipush h dX0_put_44 (-13) rfl ?_
        refine x_wid h (by decide) (by decide) ?_
        exact x_iret h dX0_put_46 rfl (by rw [hm, hmL]; exact ⟨rfl, grw.xt hn20, hT.gr hn20⟩)
    · skip
      obtain ⟨C9, T9, N9, hcl9, hp9⟩ := norow hc
      have hm : m_put J (nI s9) i = -12 := by unfold m_put; rw [if_neg c4, ix_n (by omega), h90, if_neg (nI_m9 (by omega)), if_pos (Classical.byContradiction fun y => by have := (isRow_t hs9 h90 (by omega)).mp y; omega)]
      have hmL : m_putL J M (nI s9) i v = M := by unfold m_putL; rw [if_neg (by rw [hm]; decide)]
      refine x_aaldr h (q := q) (mlt hC.1 rfl) (hC.2.1 _ _ rfl) (by decide) rfl rfl (vp_in_nI hs9 (by decide)) (s9) (nI_clamp (by omega)) hq dX0_put_14 ?_
      refine x_castF h q1537 hqn hqT hcl9 hp9 dX0_put_15 (fun t9 ht9 hn9 => x_note h hl xb_cce ht9 hn9 (by decide) ⟨by decide, by decide⟩ (Nat.le_of_ble_eq_true rfl) (fun n9 hn99 => XN.catch h hTb (pre := [⟨9, 31, 32, 47⟩]) (x := ⟨9, 31, 37, 45⟩) (suf := _) rfl (fun z hz => by
          rcases List.mem_cons.mp hz with rfl | hz
          · exact Or.inr ⟨by decide, _, q269, by decide +kernel⟩
          · cases hz) (by decide) (by decide) q184 q246 (fun a9 => ?_)))
      refine x_astore h dX0_put_37 (by decide) [some (.ref (xb G + 0)), some (.int (nI s9)), some (.int i), some (.long v), none, some (.ref a9)] rfl ?_
      refine x_bipush h dX0_put_39 (-12) rfl ?_
      refine x_wid h (by decide) (by decide) ?_
      exact x_iret h dX0_put_41 rfl (by rw [hm, hmL]; exact ⟨rfl, grw.xt hn99, hT.gr hn99⟩)
  · skip
    have hm : m_put J s i = -1 := by unfold m_put; rw [if_pos c4]
    have hmL : m_putL J M s i v = M := by unfold m_putL; rw [if_neg (by rw [hm]; decide)]
    refine x_iconst h dX0_put_7 (-1) rfl ?_
    refine x_wid h (by decide) (by decide) ?_
    exact x_iret h dX0_put_8 rfl (by rw [hm, hmL]; exact ⟨rfl, grw.rf, hT⟩)
set_option maxHeartbeats 4000000 in
theorem k0_element (l : Launch) (hl : l.stackTraces = false) (G : xG_T) (n : Nat) (Ty : Nat → xs_T) (F : xF_T) (hC : WC n Ty F) (I : xI_T) (L : xL_T) (J : xI_T) (M : xL_T) (s i : Int32) (hT : TOP n Ty I L F J M) : CgW l 210 3 1010 yX0_element cX0_element 4 (some .long) [(11, 24, 25, 47), (11, 24, 30, 45), (11, 24, 35, 49)] G idC [.ref (xb G + 0), .int s, .int i] n Ty I L F (pT n Ty (.long (m_elem J M s i)) J M) := by
  refine CgW.intro (cls := RX0) (pad := 1) (lv := [some (.ref (xb G + 0)), some (.int s), some (.int i), none]) rfl (by decide) (Nat.le_of_ble_eq_true rfl) rfl (fun Θ h hTb => ?_)
  refine x_iload_n h dX0_element_0 rfl ?_
  refine x_callSEi h (As := [.int _]) (k0_isShelf l G n _ _ hC _ _ _ ) m_X0_29 dX0_element_1 ⟨by decide, by decide⟩ ⟨by decide, by decide⟩ rfl (Nat.le_of_ble_eq_true rfl) ?_
  refine x_if_ne h 11 dX0_element_4 rfl (fun c4 => ?_) (fun c4 => ?_)
  · skip
    obtain ⟨s9, hs9, rfl⟩ := isB_s c4
    refine x_aload_n h dX0_element_11 rfl ?_
    refine x_getr h (j := 33) g_X0_32 (mlt hC.1 rfl) (hC.2.1 _ _ rfl) (by decide) (hC.2.2 _ _ _ rfl) dX0_element_12 ?_
    refine x_iload_n h dX0_element_15 rfl ?_
    rcases (hT.S s9 hs9).kinds with ⟨hnul, h90⟩ | ⟨q, a, z, hr⟩ | ⟨q, a, z, hr⟩ | ⟨q, a, z, hr⟩ | ⟨q, a, z, hr⟩ | ⟨q, a, z, hr⟩ | ⟨q, c, b, hq, hqn, hqT, hc, h90, hb50, hq32⟩
    · skip
      have hm : m_elem J M (nI s9) i = (-9223372036854775808) := by unfold m_elem; rw [if_neg c4, if_pos (isRow_e hs9 h90)]
      refine x_aaldn h (mlt hC.1 rfl) (hC.2.1 _ _ rfl) (by decide) rfl rfl (vp_in_nI hs9 (by decide)) (s9) (nI_clamp (by omega)) hnul dX0_element_16 ?_
      refine x_castN h dX0_element_17 ?_
      refine x_iload_n h dX0_element_20 rfl ?_
      refine x_invN h (As := [.int _]) q1561 ⟨Or.inr ⟨q1562, q1563⟩, by decide, by decide⟩ (show Option.map (fun d => d.parameters.length) (parseMethodDescriptor "(I)J") = some 1 from by decide +kernel) dX0_element_21 (x_noteN h hl (by decide) ⟨by decide, by decide⟩ (Nat.le_of_ble_eq_true rfl) (fun n9 hn99 => XN.catch h hTb (pre := []) (x := ⟨11, 24, 25, 47⟩) (suf := _) rfl (fun z hz => absurd hz List.not_mem_nil) (by decide) (by decide) q269 q291 (fun a9 => ?_)))
      refine x_astore_n h dX0_element_25 rfl (by decide) [some (.ref (xb G + 0)), some (.int (nI s9)), some (.int i), some (.ref a9)] rfl ?_
      refine x_ldc2 h dX0_element_26 q1560 ?_
      refine x_wid h (by decide) (by decide) ?_
      exact x_lret h dX0_element_29 rfl (by rw [hm]; exact ⟨rfl, grw.xt hn99, hT.gr hn99⟩)
    · skip
      have ⟨⟨r1, r2, hqn, r4, hqT⟩, r6, ⟨r7, r8, r9, r10, r11, r12⟩, r13⟩ := hr
      refine x_aaldr h (q := q) (mlt hC.1 rfl) (hC.2.1 _ _ rfl) (by decide) rfl rfl (vp_in_nI hs9 (by decide)) (s9) (nI_clamp (by omega)) r1 dX0_element_16 ?_
      refine x_cast h q1537 hqn hqT (rfl) q2261 dX0_element_17 ?_
      rcases Classical.em (vp_in i z) with hin | hin
      · skip
        obtain ⟨x, hx, ex⟩ := vp_in_of hin (by omega)
        subst ex
        have hm : m_elem J M (nI s9) (nI x) = M 92 (60 * s9 + x) := by unfold m_elem; rw [if_neg c4, if_neg ((isRow_t hs9 r6 (by decide)).mpr (by decide)), ix_n (by omega), r11, if_neg ((inR_vp r10).mpr hin), ix_n (by omega)]
        refine x_iload_n h dX0_element_20 rfl ?_
        refine x_callUEl h (As := [.int _]) (k24_at l G n _ _ hC _ _ q a z (nI x) hqn hqT r7 r9 r12 hin) u_X0_508_X24 hqn hqT dX0_element_21 ⟨by decide, by decide⟩ ⟨by decide, by decide⟩ rfl (Nat.le_of_ble_eq_true rfl) ?_
        refine x_wid h (by decide) (by decide) ?_
        exact x_lret h dX0_element_24 rfl ⟨congrArg (fun z => some (Value.long z)) (by rw [hm, ix_n (by omega)]; have y := (r13 x hx).1; rw [if_neg (by decide)] at y; exact y), grw.rf, hT⟩
      · skip
        have hm : m_elem J M (nI s9) i = (-9223372036854775808) := by unfold m_elem; rw [if_neg c4, if_neg ((isRow_t hs9 r6 (by decide)).mpr (by decide)), ix_n (by omega), r11, if_pos (Classical.byContradiction fun y => hin ((inR_vp r10).mp y))]
        refine x_iload_n h dX0_element_20 rfl ?_
        refine x_callUX h (As := [.int _]) (k24_atZ l hl G n _ _ hC _ _ q a z i hqn hqT r7 r9 r12 r10 hin) u_X0_508_X24 hqn hqT dX0_element_21 ⟨by decide, by decide⟩ ⟨by omega, by omega⟩ rfl (Nat.le_of_ble_eq_true rfl) (fun E21 m21 Ty21 J21 L21 F21 hpx => ?_) (fun _ _ _ _ _ _ hp => absurd hp id)
        obtain ⟨rfl, hn21, rfl, rfl, rfl, rfl⟩ := hpx
        refine XN.catch h hTb (pre := [⟨11, 24, 25, 47⟩, ⟨11, 24, 30, 45⟩]) (x := ⟨11, 24, 35, 49⟩) (suf := _) rfl (fun z hz => by
            rcases List.mem_cons.mp hz with rfl | hz
            · exact Or.inr ⟨by decide, _, q269, by decide +kernel⟩
            · rcases List.mem_cons.mp hz with rfl | hz
              · exact Or.inr ⟨by decide, _, q184, by decide +kernel⟩
              · cases hz) (by decide) (by decide) q294 q2259 (fun a9 => ?_)
        refine x_astore_n h dX0_element_35 rfl (by decide) [some (.ref (xb G + 0)), some (.int (nI s9)), some (.int i), some (.ref a9)] rfl ?_
        refine x_ldc2 h dX0_element_36 q1560 ?_
        refine x_wid h (by decide) (by decide) ?_
        exact x_lret h dX0_element_39 rfl (by rw [hm]; exact ⟨rfl, grw.xt hn21, hT.gr hn21⟩)
    · skip
      have ⟨⟨r1, r2, hqn, r4, hqT⟩, r6, ⟨r7, r8, r9, r10, r11, r12⟩, r13⟩ := hr
      refine x_aaldr h (q := q) (mlt hC.1 rfl) (hC.2.1 _ _ rfl) (by decide) rfl rfl (vp_in_nI hs9 (by decide)) (s9) (nI_clamp (by omega)) r1 dX0_element_16 ?_
      refine x_cast h q1537 hqn hqT (rfl) q2264 dX0_element_17 ?_
      rcases Classical.em (vp_in i z) with hin | hin
      · skip
        obtain ⟨x, hx, ex⟩ := vp_in_of hin (by omega)
        subst ex
        have hm : m_elem J M (nI s9) (nI x) = M 92 (60 * s9 + x) := by unfold m_elem; rw [if_neg c4, if_neg ((isRow_t hs9 r6 (by decide)).mpr (by decide)), ix_n (by omega), r11, if_neg ((inR_vp r10).mpr hin), ix_n (by omega)]
        refine x_iload_n h dX0_element_20 rfl ?_
        refine x_callUEl h (As := [.int _]) (k25_at l G n _ _ hC _ _ q a z (nI x) hqn hqT r7 r9 r12 hin) u_X0_508_X25 hqn hqT dX0_element_21 ⟨by decide, by decide⟩ ⟨by decide, by decide⟩ rfl (Nat.le_of_ble_eq_true rfl) ?_
        refine x_wid h (by decide) (by decide) ?_
        exact x_lret h dX0_element_24 rfl ⟨congrArg (fun z => some (Value.long z)) (by rw [hm, ix_n (by omega)]; have y := (r13 x hx).1; rw [if_neg (by decide)] at y; exact y), grw.rf, hT⟩
      · skip
        have hm : m_elem J M (nI s9) i = (-9223372036854775808) := by unfold m_elem; rw [if_neg c4, if_neg ((isRow_t hs9 r6 (by decide)).mpr (by decide)), ix_n (by omega), r11, if_pos (Classical.byContradiction fun y => hin ((inR_vp r10).mp y))]
        refine x_iload_n h dX0_element_20 rfl ?_
        refine x_callUX h (As := [.int _]) (k25_atZ l hl G n _ _ hC _ _ q a z i hqn hqT r7 r9 r12 r10 hin) u_X0_508_X25 hqn hqT dX0_element_21 ⟨by decide, by decide⟩ ⟨by omega, by omega⟩ rfl (Nat.le_of_ble_eq_true rfl) (fun E21 m21 Ty21 J21 L21 F21 hpx => ?_) (fun _ _ _ _ _ _ hp => absurd hp id)
        obtain ⟨rfl, hn21, rfl, rfl, rfl, rfl⟩ := hpx
        refine XN.catch h hTb (pre := [⟨11, 24, 25, 47⟩, ⟨11, 24, 30, 45⟩]) (x := ⟨11, 24, 35, 49⟩) (suf := _) rfl (fun z hz => by
            rcases List.mem_cons.mp hz with rfl | hz
            · exact Or.inr ⟨by decide, _, q269, by decide +kernel⟩
            · rcases List.mem_cons.mp hz with rfl | hz
              · exact Or.inr ⟨by decide, _, q184, by decide +kernel⟩
              · cases hz) (by decide) (by decide) q294 q2259 (fun a9 => ?_)
        refine x_astore_n h dX0_element_35 rfl (by decide) [some (.ref (xb G + 0)), some (.int (nI s9)), some (.int i), some (.ref a9)] rfl ?_
        refine x_ldc2 h dX0_element_36 q1560 ?_
        refine x_wid h (by decide) (by decide) ?_
        exact x_lret h dX0_element_39 rfl (by rw [hm]; exact ⟨rfl, grw.xt hn21, hT.gr hn21⟩)
    · skip
      have ⟨⟨r1, r2, hqn, r4, hqT⟩, r6, ⟨r7, r8, r9, r10, r11, r12⟩, r13⟩ := hr
      refine x_aaldr h (q := q) (mlt hC.1 rfl) (hC.2.1 _ _ rfl) (by decide) rfl rfl (vp_in_nI hs9 (by decide)) (s9) (nI_clamp (by omega)) r1 dX0_element_16 ?_
      refine x_cast h q1537 hqn hqT (rfl) q2262 dX0_element_17 ?_
      rcases Classical.em (vp_in i z) with hin | hin
      · skip
        obtain ⟨x, hx, ex⟩ := vp_in_of hin (by omega)
        subst ex
        have hm : m_elem J M (nI s9) (nI x) = M 92 (60 * s9 + x) := by unfold m_elem; rw [if_neg c4, if_neg ((isRow_t hs9 r6 (by decide)).mpr (by decide)), ix_n (by omega), r11, if_neg ((inR_vp r10).mpr hin), ix_n (by omega)]
        refine x_iload_n h dX0_element_20 rfl ?_
        refine x_callUEl h (As := [.int _]) (k26_at l G n _ _ hC _ _ q a z (nI x) hqn hqT r7 r9 r12 hin) u_X0_508_X26 hqn hqT dX0_element_21 ⟨by decide, by decide⟩ ⟨by decide, by decide⟩ rfl (Nat.le_of_ble_eq_true rfl) ?_
        refine x_wid h (by decide) (by decide) ?_
        exact x_lret h dX0_element_24 rfl ⟨congrArg (fun z => some (Value.long z)) (by rw [hm, ix_n (by omega)]; have y := (r13 x hx).1; rw [if_neg (by decide)] at y; exact y), grw.rf, hT⟩
      · skip
        have hm : m_elem J M (nI s9) i = (-9223372036854775808) := by unfold m_elem; rw [if_neg c4, if_neg ((isRow_t hs9 r6 (by decide)).mpr (by decide)), ix_n (by omega), r11, if_pos (Classical.byContradiction fun y => hin ((inR_vp r10).mp y))]
        refine x_iload_n h dX0_element_20 rfl ?_
        refine x_callUX h (As := [.int _]) (k26_atZ l hl G n _ _ hC _ _ q a z i hqn hqT r7 r9 r12 r10 hin) u_X0_508_X26 hqn hqT dX0_element_21 ⟨by decide, by decide⟩ ⟨by omega, by omega⟩ rfl (Nat.le_of_ble_eq_true rfl) (fun E21 m21 Ty21 J21 L21 F21 hpx => ?_) (fun _ _ _ _ _ _ hp => absurd hp id)
        obtain ⟨rfl, hn21, rfl, rfl, rfl, rfl⟩ := hpx
        refine XN.catch h hTb (pre := [⟨11, 24, 25, 47⟩, ⟨11, 24, 30, 45⟩]) (x := ⟨11, 24, 35, 49⟩) (suf := _) rfl (fun z hz => by
            rcases List.mem_cons.mp hz with rfl | hz
            · exact Or.inr ⟨by decide, _, q269, by decide +kernel⟩
            · rcases List.mem_cons.mp hz with rfl | hz
              · exact Or.inr ⟨by decide, _, q184, by decide +kernel⟩
              · cases hz) (by decide) (by decide) q294 q2259 (fun a9 => ?_)
        refine x_astore_n h dX0_element_35 rfl (by decide) [some (.ref (xb G + 0)), some (.int (nI s9)), some (.int i), some (.ref a9)] rfl ?_
        refine x_ldc2 h dX0_element_36 q1560 ?_
        refine x_wid h (by decide) (by decide) ?_
        exact x_lret h dX0_element_39 rfl (by rw [hm]; exact ⟨rfl, grw.xt hn21, hT.gr hn21⟩)
    · skip
      have ⟨⟨r1, r2, hqn, r4, hqT⟩, r6, ⟨r7, r8, r9, r10, r11, r12⟩, r13⟩ := hr
      refine x_aaldr h (q := q) (mlt hC.1 rfl) (hC.2.1 _ _ rfl) (by decide) rfl rfl (vp_in_nI hs9 (by decide)) (s9) (nI_clamp (by omega)) r1 dX0_element_16 ?_
      refine x_cast h q1537 hqn hqT (rfl) q2263 dX0_element_17 ?_
      rcases Classical.em (vp_in i z) with hin | hin
      · skip
        obtain ⟨x, hx, ex⟩ := vp_in_of hin (by omega)
        subst ex
        have hm : m_elem J M (nI s9) (nI x) = M 92 (60 * s9 + x) := by unfold m_elem; rw [if_neg c4, if_neg ((isRow_t hs9 r6 (by decide)).mpr (by decide)), ix_n (by omega), r11, if_neg ((inR_vp r10).mpr hin), ix_n (by omega)]
        refine x_iload_n h dX0_element_20 rfl ?_
        refine x_callUEl h (As := [.int _]) (k27_at l G n _ _ hC _ _ q a z (nI x) hqn hqT r7 r9 r12 hin) u_X0_508_X27 hqn hqT dX0_element_21 ⟨by decide, by decide⟩ ⟨by decide, by decide⟩ rfl (Nat.le_of_ble_eq_true rfl) ?_
        refine x_wid h (by decide) (by decide) ?_
        exact x_lret h dX0_element_24 rfl ⟨congrArg (fun z => some (Value.long z)) (by rw [hm, ix_n (by omega)]; have y := (r13 x hx).1; rw [if_pos rfl] at y; exact y), grw.rf, hT⟩
      · skip
        have hm : m_elem J M (nI s9) i = (-9223372036854775808) := by unfold m_elem; rw [if_neg c4, if_neg ((isRow_t hs9 r6 (by decide)).mpr (by decide)), ix_n (by omega), r11, if_pos (Classical.byContradiction fun y => hin ((inR_vp r10).mp y))]
        refine x_iload_n h dX0_element_20 rfl ?_
        refine x_callUX h (As := [.int _]) (k27_atZ l hl G n _ _ hC _ _ q a z i hqn hqT r7 r9 r12 r10 hin) u_X0_508_X27 hqn hqT dX0_element_21 ⟨by decide, by decide⟩ ⟨by omega, by omega⟩ rfl (Nat.le_of_ble_eq_true rfl) (fun E21 m21 Ty21 J21 L21 F21 hpx => ?_) (fun _ _ _ _ _ _ hp => absurd hp id)
        obtain ⟨rfl, hn21, rfl, rfl, rfl, rfl⟩ := hpx
        refine XN.catch h hTb (pre := [⟨11, 24, 25, 47⟩, ⟨11, 24, 30, 45⟩]) (x := ⟨11, 24, 35, 49⟩) (suf := _) rfl (fun z hz => by
            rcases List.mem_cons.mp hz with rfl | hz
            · exact Or.inr ⟨by decide, _, q269, by decide +kernel⟩
            · rcases List.mem_cons.mp hz with rfl | hz
              · exact Or.inr ⟨by decide, _, q184, by decide +kernel⟩
              · cases hz) (by decide) (by decide) q294 q2259 (fun a9 => ?_)
        refine x_astore_n h dX0_element_35 rfl (by decide) [some (.ref (xb G + 0)), some (.int (nI s9)), some (.int i), some (.ref a9)] rfl ?_
        refine x_ldc2 h dX0_element_36 q1560 ?_
        refine x_wid h (by decide) (by decide) ?_
        exact x_lret h dX0_element_39 rfl (by rw [hm]; exact ⟨rfl, grw.xt hn21, hT.gr hn21⟩)
    · skip
      have ⟨⟨r1, r2, hqn, r4, hqT⟩, r6, ⟨r7, r8, r9, r10, r11, r12⟩, r13⟩ := hr
      refine x_aaldr h (q := q) (mlt hC.1 rfl) (hC.2.1 _ _ rfl) (by decide) rfl rfl (vp_in_nI hs9 (by decide)) (s9) (nI_clamp (by omega)) r1 dX0_element_16 ?_
      refine x_cast h q1537 hqn hqT (rfl) q2260 dX0_element_17 ?_
      rcases Classical.em (vp_in i z) with hin | hin
      · skip
        obtain ⟨x, hx, ex⟩ := vp_in_of hin (by omega)
        subst ex
        have hm : m_elem J M (nI s9) (nI x) = M 92 (60 * s9 + x) := by unfold m_elem; rw [if_neg c4, if_neg ((isRow_t hs9 r6 (by decide)).mpr (by decide)), ix_n (by omega), r11, if_neg ((inR_vp r10).mpr hin), ix_n (by omega)]
        refine x_iload_n h dX0_element_20 rfl ?_
        refine x_callUEl h (As := [.int _]) (k28_at l G n _ _ hC _ _ q a z (nI x) hqn hqT r7 r9 r12 hin) u_X0_508_X28 hqn hqT dX0_element_21 ⟨by decide, by decide⟩ ⟨by decide, by decide⟩ rfl (Nat.le_of_ble_eq_true rfl) ?_
        refine x_wid h (by decide) (by decide) ?_
        exact x_lret h dX0_element_24 rfl ⟨congrArg (fun z => some (Value.long z)) (by rw [hm, ix_n (by omega)]; rw [bool_l ((r13 x hx).2 (by decide))]; have y := (r13 x hx).1; rw [if_neg (by decide)] at y; exact y), grw.rf, hT⟩
      · skip
        have hm : m_elem J M (nI s9) i = (-9223372036854775808) := by unfold m_elem; rw [if_neg c4, if_neg ((isRow_t hs9 r6 (by decide)).mpr (by decide)), ix_n (by omega), r11, if_pos (Classical.byContradiction fun y => hin ((inR_vp r10).mp y))]
        refine x_iload_n h dX0_element_20 rfl ?_
        refine x_callUX h (As := [.int _]) (k28_atZ l hl G n _ _ hC _ _ q a z i hqn hqT r7 r9 r12 r10 hin) u_X0_508_X28 hqn hqT dX0_element_21 ⟨by decide, by decide⟩ ⟨by omega, by omega⟩ rfl (Nat.le_of_ble_eq_true rfl) (fun E21 m21 Ty21 J21 L21 F21 hpx => ?_) (fun _ _ _ _ _ _ hp => absurd hp id)
        obtain ⟨rfl, hn21, rfl, rfl, rfl, rfl⟩ := hpx
        refine XN.catch h hTb (pre := [⟨11, 24, 25, 47⟩, ⟨11, 24, 30, 45⟩]) (x := ⟨11, 24, 35, 49⟩) (suf := _) rfl (fun z hz => by
            rcases List.mem_cons.mp hz with rfl | hz
            · exact Or.inr ⟨by decide, _, q269, by decide +kernel⟩
            · rcases List.mem_cons.mp hz with rfl | hz
              · exact Or.inr ⟨by decide, _, q184, by decide +kernel⟩
              · cases hz) (by decide) (by decide) q294 q2259 (fun a9 => ?_)
        refine x_astore_n h dX0_element_35 rfl (by decide) [some (.ref (xb G + 0)), some (.int (nI s9)), some (.int i), some (.ref a9)] rfl ?_
        refine x_ldc2 h dX0_element_36 q1560 ?_
        refine x_wid h (by decide) (by decide) ?_
        exact x_lret h dX0_element_39 rfl (by rw [hm]; exact ⟨rfl, grw.xt hn21, hT.gr hn21⟩)
    · skip
      obtain ⟨C9, T9, N9, hcl9, hp9⟩ := norow hc
      have hm : m_elem J M (nI s9) i = (-9223372036854775808) := by unfold m_elem; rw [if_neg c4, if_pos (Classical.byContradiction fun y => by have := (isRow_t hs9 h90 (by omega)).mp y; omega)]
      refine x_aaldr h (q := q) (mlt hC.1 rfl) (hC.2.1 _ _ rfl) (by decide) rfl rfl (vp_in_nI hs9 (by decide)) (s9) (nI_clamp (by omega)) hq dX0_element_16 ?_
      refine x_castF h q1537 hqn hqT hcl9 hp9 dX0_element_17 (fun t9 ht9 hn9 => x_note h hl xb_cce ht9 hn9 (by decide) ⟨by decide, by decide⟩ (Nat.le_of_ble_eq_true rfl) (fun n9 hn99 => XN.catch h hTb (pre := [⟨11, 24, 25, 47⟩]) (x := ⟨11, 24, 30, 45⟩) (suf := _) rfl (fun z hz => by
          rcases List.mem_cons.mp hz with rfl | hz
          · exact Or.inr ⟨by decide, _, q269, by decide +kernel⟩
          · cases hz) (by decide) (by decide) q184 q246 (fun a9 => ?_)))
      refine x_astore_n h dX0_element_30 rfl (by decide) [some (.ref (xb G + 0)), some (.int (nI s9)), some (.int i), some (.ref a9)] rfl ?_
      refine x_ldc2 h dX0_element_31 q1560 ?_
      refine x_wid h (by decide) (by decide) ?_
      exact x_lret h dX0_element_34 rfl (by rw [hm]; exact ⟨rfl, grw.xt hn99, hT.gr hn99⟩)
  · skip
    have hm : m_elem J M s i = (-9223372036854775808) := by unfold m_elem; rw [if_pos c4]
    refine x_ldc2 h dX0_element_7 q1560 ?_
    refine x_wid h (by decide) (by decide) ?_
    exact x_lret h dX0_element_10 rfl (by rw [hm]; exact ⟨rfl, grw.rf, hT⟩)
