/-! WALKS OF THE COMPONENT: buyers out of a row -/
theorem m_X0_38 : xcv RX0 38 25 yX25_at cX25_at 2 (some .long) 1 := ⟨_, _, _, rfl, lw_V q317 q318 q319 q140 q320, rfl, by decide +kernel, by decide +kernel, by decide +kernel⟩
set_option maxHeartbeats 4000000 in
theorem k0_buyers (l : Launch) (hl : l.stackTraces = false) (G : xG_T) (n : Nat) (Ty : Nat → xs_T) (F : xF_T) (hC : WC n Ty F) (I : xI_T) (L : xL_T) (J : xI_T) (M : xL_T) (s i z : Int32) (hT : TOP n Ty I L F J M) : CgW l 210 11 1042 yX0_buyers cX0_buyers 10 (some .int) [(22, 133, 159, 45), (134, 156, 159, 45), (22, 133, 164, 47), (134, 156, 164, 47), (22, 133, 169, 49), (134, 156, 169, 49)] G idC [.ref (xb G + 0), .int s, .int i, .int z] n Ty I L F (pT n Ty (.int ((m_buyers J M s i z).1)) ((m_buyers J M s i z).2) (M)) := by
  refine CgW.intro (cls := RX0) (pad := 6) (lv := [some (.ref (xb G + 0)), some (.int s), some (.int i), some (.int z), none, none, none, none, none, none]) rfl (by decide) (Nat.le_of_ble_eq_true rfl) rfl (fun Θ h hTb => ?_)
  refine x_iload_n h dX0_buyers_0 rfl ?_
  refine x_callSEi h (As := [.int _]) (k0_isShelf l G n _ _ hC _ _ _ ) m_X0_29 dX0_buyers_1 ⟨by decide, by decide⟩ ⟨by decide, by decide⟩ rfl (Nat.le_of_ble_eq_true rfl) ?_
  refine x_if_eq h 17 dX0_buyers_4 rfl (fun c4 => ?_) (fun c4 => ?_)
  · skip
    have hst : m_buyers J M s i z = (-1, J) := by unfold m_buyers; rw [if_pos c4]
    refine x_iconst h dX0_buyers_17 (-1) rfl ?_
    refine x_wid h (by decide) (by decide) ?_
    exact x_iret h dX0_buyers_18 rfl (by rw [hst]; exact ⟨rfl, grw.rf, hT⟩)
  · skip
    obtain ⟨s9, hs9, rfl⟩ := isB_s c4
    refine x_iload_n h dX0_buyers_7 rfl ?_
    refine x_iconst h dX0_buyers_8 (1) rfl ?_
    refine x_bipush h dX0_buyers_9 (8) rfl ?_
    refine x_callSEi h (As := [.int _, .int _, .int _]) (k0_in l G n _ _ hC _ _ _ _ _ ) m_X0_7 dX0_buyers_11 ⟨by decide, by decide⟩ ⟨by decide, by decide⟩ rfl (Nat.le_of_ble_eq_true rfl) ?_
    refine x_if_ne h 19 dX0_buyers_14 rfl (fun c14 => ?_) (fun c14 => ?_)
    · skip
      obtain ⟨zn, hz1, hz8, rfl⟩ := inR_nat 1 8 c14 rfl rfl (by decide)
      refine x_iconst h dX0_buyers_19 (0) rfl ?_
      refine x_istore h dX0_buyers_20 (by decide) [some (.ref (xb G + 0)), some (.int (nI s9)), some (.int i), some (.int (nI zn)), some (.int 0), none, none, none, none, none] rfl ?_
      refine x_aload_n h dX0_buyers_22 rfl ?_
      refine x_getr h (j := 33) g_X0_32 (mlt hC.1 rfl) (hC.2.1 _ _ rfl) (by decide) (hC.2.2 _ _ _ rfl) dX0_buyers_23 ?_
      refine x_iload_n h dX0_buyers_26 rfl ?_
      rcases (hT.S s9 hs9).short with ⟨hnul, h90⟩ | ⟨q, hq, hqn, hqT, h90⟩ | ⟨q, ci, t, hq, hqn, hqT, hci, h90, ht1, ht2⟩
      · skip
        have hst : m_buyers J M (nI s9) i (nI zn) = (0, J) := by unfold m_buyers; rw [if_neg c4, if_neg c14, ix_n (by omega), if_pos h90]
        refine x_aaldn h (mlt hC.1 rfl) (hC.2.1 _ _ rfl) (by decide) rfl rfl (vp_in_nI hs9 (by decide)) (s9) (nI_clamp (by omega)) hnul dX0_buyers_27 ?_
        refine x_castN h dX0_buyers_28 ?_
        refine x_astoreN h dX0_buyers_31 (by decide) [some (.ref (xb G + 0)), some (.int (nI s9)), some (.int i), some (.int (nI zn)), some (.int 0), some (.null), none, none, none, none] rfl ?_
        refine x_iconst h dX0_buyers_33 (0) rfl ?_
        refine x_istore h dX0_buyers_34 (by decide) [some (.ref (xb G + 0)), some (.int (nI s9)), some (.int i), some (.int (nI zn)), some (.int 0), some (.null), some (.int 0), none, none, none] rfl ?_
        refine x_iload h dX0_buyers_36 rfl ?_
        refine x_iload_n h dX0_buyers_38 rfl ?_
        refine x_icmp_ge h 156 dX0_buyers_39 rfl (fun c39 => ?_) (fun c39 => ?_)
        · skip
          refine x_goto h 174 dX0_buyers_156 rfl ?_
          refine x_iload h dX0_buyers_174 rfl ?_
          refine x_wid h (by decide) (by decide) ?_
          exact x_iret h dX0_buyers_176 rfl (by rw [hst]; first | exact ⟨rfl, hgk, hTk⟩ | exact ⟨rfl, grw.rf, hT⟩)
        · skip
          refine x_aload_n h dX0_buyers_42 rfl ?_
          refine x_geti h g_X0_1 (mlt hC.1 rfl) (hC.2.1 _ _ rfl) rfl dX0_buyers_43 ?_
          refine x_bipush h dX0_buyers_46 (8) rfl ?_
          refine x_icmp_ge h 156 dX0_buyers_48 rfl (fun c48 => ?_) (fun c48 => ?_)
          · skip
            refine x_goto h 174 dX0_buyers_156 rfl ?_
            refine x_iload h dX0_buyers_174 rfl ?_
            refine x_wid h (by decide) (by decide) ?_
            exact x_iret h dX0_buyers_176 rfl (by rw [hst]; first | exact ⟨rfl, hgk, hTk⟩ | exact ⟨rfl, grw.rf, hT⟩)
          · skip
            refine x_aloadN h dX0_buyers_51 rfl ?_
            refine x_iload_n h dX0_buyers_53 rfl ?_
            refine x_iconst h dX0_buyers_54 (3) rfl ?_
            refine x_iload h dX0_buyers_55 rfl ?_
            refine x_imul h dX0_buyers_57 ?_
            refine x_iadd h dX0_buyers_58 ?_
            refine x_invN h (As := [.int _]) q317 ⟨Or.inl ⟨_, _, _, _, q318, q320, q319⟩, by decide, by decide⟩ (show Option.map (fun d => d.parameters.length) (parseMethodDescriptor "(I)J") = some 1 from by decide +kernel) dX0_buyers_59 (x_noteN h hl (by decide) ⟨by decide, by decide⟩ (Nat.le_of_ble_eq_true rfl) (fun n9 hn99 => XN.catch h hTb (pre := [⟨22, 133, 159, 45⟩, ⟨134, 156, 159, 45⟩]) (x := ⟨22, 133, 164, 47⟩) (suf := _) rfl (fun z hz => by
                rcases List.mem_cons.mp hz with rfl | hz
                · exact Or.inr ⟨by decide, _, q184, by decide +kernel⟩
                · rcases List.mem_cons.mp hz with rfl | hz
                  · exact Or.inl (by decide)
                  · cases hz) (by decide) (by decide) q269 q291 (fun a9 => ?_)))
            refine x_astore h dX0_buyers_164 (by decide) [some (.ref (xb G + 0)), some (.int (nI s9)), some (.int i), some (.int (nI zn)), some (.int 0), some (.ref a9), some (.int 0), none, none, none] rfl ?_
            refine x_iload h dX0_buyers_166 rfl ?_
            refine x_wid h (by decide) (by decide) ?_
            exact x_iret h dX0_buyers_168 rfl (by rw [hst]; exact ⟨rfl, grw.xt hn99, hT.gr hn99⟩)
      · skip
        refine x_aaldr h (q := q) (mlt hC.1 rfl) (hC.2.1 _ _ rfl) (by decide) rfl rfl (vp_in_nI hs9 (by decide)) (s9) (nI_clamp (by omega)) hq dX0_buyers_27 ?_
        refine x_castS h q316 hqn hqT rfl dX0_buyers_28 ?_
        refine x_astore h dX0_buyers_31 (by decide) [some (.ref (xb G + 0)), some (.int (nI s9)), some (.int i), some (.int (nI zn)), some (.int 0), some (.ref (xb G + q)), none, none, none, none] rfl ?_
        refine x_iconst h dX0_buyers_33 (0) rfl ?_
        refine x_istore h dX0_buyers_34 (by decide) [some (.ref (xb G + 0)), some (.int (nI s9)), some (.int i), some (.int (nI zn)), some (.int 0), some (.ref (xb G + q)), some (.int 0), none, none, none] rfl ?_
        have lp36 : ∀ (d : Nat) (k nn : Nat) (Tt : Nat → xs_T) (A : xI_T) (Lx : xL_T) (Fx : xF_T) (K : xI_T), 9 - k < d → (TOP nn Tt A Lx Fx K M) → (grw n nn Ty Tt) → (k ≤ 8) → (m_buyers J M (nI s9) i (nI zn) = m_buyGo M (nI s9) i (nI zn) (8 - k + 1) k K) → (Fx 33 s9 = some q) → (K 90 s9 = nI 1) → X Θ k (4 * k) nn Tt A Lx Fx 36 [some (.ref (xb G + 0)), some (.int (nI s9)), some (.int i), some (.int (nI zn)), some (.int (nI k)), some (.ref (xb G + q)), some (.int (nI k)), none, none, none] [] := by
          intro d
          induction d with
          | zero =>
            intro k nn Tt A Lx Fx K hlt
            exact absurd hlt (Nat.not_lt_zero _)
          | succ d ih =>
            intro k nn Tt A Lx Fx K hlt hTk hgk hk hgo hqk h9k
            have hCk : WC nn Tt Fx := hTk.1
            obtain ⟨a, zz, ⟨hqn, hqT⟩, hf0, han, hz6, e91, haT, hval⟩ := (hTk.S s9 hs9).row1 hqk h9k
            obtain ⟨nb, hnb, enb, enx⟩ := BUY.nb hTk.2.2.2.2.2.1
            refine x_iload h dX0_buyers_36 rfl ?_
            refine x_iload_n h dX0_buyers_38 rfl ?_
            refine x_icmp_ge h 156 dX0_buyers_39 rfl (fun c39 => ?_) (fun c39 => ?_)
            · skip
              have hst : m_buyers J M (nI s9) i (nI zn) = (nI k, K) := by rw [hgo]; exact buyGo_0 c39
              refine x_goto h 174 dX0_buyers_156 rfl ?_
              refine x_iload h dX0_buyers_174 rfl ?_
              refine x_wid h (by omega) (by omega) ?_
              exact x_iret h dX0_buyers_176 rfl (by rw [hst]; first | exact ⟨rfl, hgk, hTk⟩ | exact ⟨rfl, grw.rf, hT⟩)
            · skip
              have hkz : k < zn := Nat.lt_of_not_le fun y => c39 ((nI_leI (by omega) (by omega)).mpr y)
              have hk8 : k < 8 := by omega
              refine x_aload_n h dX0_buyers_42 rfl ?_
              refine x_geti h g_X0_1 (mlt hCk.1 rfl) (hCk.2.1 _ _ rfl) rfl dX0_buyers_43 ?_
              refine x_eqi (nI nb) (hTk.2.1.1.trans enb) ?_
              refine x_bipush h dX0_buyers_46 (8) rfl ?_
              refine x_icmp_ge h 156 dX0_buyers_48 rfl (fun c48 => ?_) (fun c48 => ?_)
              · skip
                have hb8 : nb = 8 := by have y := (nI_leI (a := 8) (b := nb) (by omega) (by omega)).mp c48; omega
                have hst : m_buyers J M (nI s9) i (nI zn) = (nI k, K) := by rw [hgo]; exact buyGo_1 c39 rfl (Or.inr (Or.inr (by rw [enb, hb8]; rfl)))
                refine x_goto h 174 dX0_buyers_156 rfl ?_
                refine x_iload h dX0_buyers_174 rfl ?_
                refine x_wid h (by omega) (by omega) ?_
                exact x_iret h dX0_buyers_176 rfl (by rw [hst]; first | exact ⟨rfl, hgk, hTk⟩ | exact ⟨rfl, grw.rf, hT⟩)
              · skip
                have hn8 : nb < 8 := Nat.lt_of_not_le fun y => c48 ((nI_leI (a := 8) (by omega) (by omega)).mpr y)
                rcases buy_cases (i := i) (k := k) hk8 hz6 with ⟨hf, x, hx3, ex, ep⟩ | ⟨hf, hv | ⟨x, ex, hx⟩ | ⟨x, ex, hx⟩⟩
                · skip
                  have hbf : ¬ (i.toInt64 + 3 * (nI k).toInt64 < 0 ∨ (K 91 (ix (nI s9))).toInt64 < i.toInt64 + 3 * (nI k).toInt64 + 3 ∨ K 70 0 = 8) := fun y => by rw [ix_n (by omega), e91] at y; rcases y with y | y | y; exact hf (Or.inl y); exact hf (Or.inr y); rw [enb] at y; have y2 := congrArg ix y; rw [ix_n (by omega), show ix (8 : Int32) = 8 from rfl] at y2; omega
                  refine x_aload h dX0_buyers_51 rfl ?_
                  refine x_iload_n h dX0_buyers_53 rfl ?_
                  refine x_iconst h dX0_buyers_54 (3) rfl ?_
                  refine x_iload h dX0_buyers_55 rfl ?_
                  refine x_imul h dX0_buyers_57 ?_
                  refine x_iadd h dX0_buyers_58 ?_
                  refine x_eqi (nI x) ex ?_
                  refine x_callVEl h (As := [.int _]) (k25_at l G nn _ _ hCk _ _ q a zz (nI x) hqn hqT hf0 han haT (vp_in_nI (by omega) (by omega))) m_X0_38 hqn hqT dX0_buyers_59 ⟨by decide, by decide⟩ ⟨by omega, by omega⟩ rfl (Nat.le_of_ble_eq_true rfl) ?_
                  refine x_l2i h dX0_buyers_62 ?_
                  refine x_nmi (fun v63 ev63 => ?_)
                  refine x_istore h dX0_buyers_63 (by decide) [some (.ref (xb G + 0)), some (.int (nI s9)), some (.int i), some (.int (nI zn)), some (.int (nI k)), some (.ref (xb G + q)), some (.int (nI k)), some (.int v63), none, none] rfl ?_
                  refine x_aload h dX0_buyers_65 rfl ?_
                  refine x_iload_n h dX0_buyers_67 rfl ?_
                  refine x_iconst h dX0_buyers_68 (3) rfl ?_
                  refine x_iload h dX0_buyers_69 rfl ?_
                  refine x_imul h dX0_buyers_71 ?_
                  refine x_iadd h dX0_buyers_72 ?_
                  refine x_eqi (nI x) ex ?_
                  refine x_iconst h dX0_buyers_73 (1) rfl ?_
                  refine x_iaddE h (nI (x + 1)) (nI_add x 1) dX0_buyers_74 ?_
                  refine x_callVEl h (As := [.int _]) (k25_at l G nn _ _ hCk _ _ q a zz (nI (x + 1)) hqn hqT hf0 han haT (vp_in_nI (by omega) (by omega))) m_X0_38 hqn hqT dX0_buyers_75 ⟨by decide, by decide⟩ ⟨by omega, by omega⟩ rfl (Nat.le_of_ble_eq_true rfl) ?_
                  refine x_l2i h dX0_buyers_78 ?_
                  refine x_nmi (fun v79 ev79 => ?_)
                  refine x_istore h dX0_buyers_79 (by decide) [some (.ref (xb G + 0)), some (.int (nI s9)), some (.int i), some (.int (nI zn)), some (.int (nI k)), some (.ref (xb G + q)), some (.int (nI k)), some (.int v63), some (.int v79), none] rfl ?_
                  refine x_aload h dX0_buyers_81 rfl ?_
                  refine x_iload_n h dX0_buyers_83 rfl ?_
                  refine x_iconst h dX0_buyers_84 (3) rfl ?_
                  refine x_iload h dX0_buyers_85 rfl ?_
                  refine x_imul h dX0_buyers_87 ?_
                  refine x_iadd h dX0_buyers_88 ?_
                  refine x_eqi (nI x) ex ?_
                  refine x_iconst h dX0_buyers_89 (2) rfl ?_
                  refine x_iaddE h (nI (x + 2)) (nI_add x 2) dX0_buyers_90 ?_
                  refine x_callVEl h (As := [.int _]) (k25_at l G nn _ _ hCk _ _ q a zz (nI (x + 2)) hqn hqT hf0 han haT (vp_in_nI (by omega) (by omega))) m_X0_38 hqn hqT dX0_buyers_91 ⟨by decide, by decide⟩ ⟨by omega, by omega⟩ rfl (Nat.le_of_ble_eq_true rfl) ?_
                  refine x_l2i h dX0_buyers_94 ?_
                  refine x_nmi (fun v95 ev95 => ?_)
                  refine x_istore h dX0_buyers_95 (by decide) [some (.ref (xb G + 0)), some (.int (nI s9)), some (.int i), some (.int (nI zn)), some (.int (nI k)), some (.ref (xb G + q)), some (.int (nI k)), some (.int v63), some (.int v79), some (.int v95)] rfl ?_
                  have e7 : v63 = m_told M (nI s9) (nI x) := by rw [ev63, ix_n (by omega), hval x (by omega), told_n hs9 (by omega)]
                  have e8 : v79 = m_told M (nI s9) (nI x + 1) := by rw [ev79, ix_n (by omega), hval (x + 1) (by omega), nI_1, told_n hs9 (by omega)]
                  have e9 : v95 = m_told M (nI s9) (nI x + 2) := by rw [ev95, ix_n (by omega), hval (x + 2) (by omega), show nI x + 2 = nI (x + 2) from nI_add x 2, told_n hs9 (by omega)]
                  refine x_iload h dX0_buyers_97 rfl ?_
                  refine x_iconst h dX0_buyers_99 (0) rfl ?_
                  refine x_sipush h dX0_buyers_100 (999) rfl ?_
                  refine x_callSEi h (As := [.int _, .int _, .int _]) (k0_in l G nn _ _ hCk _ _ _ _ _ ) m_X0_7 dX0_buyers_103 ⟨by decide, by decide⟩ ⟨by omega, by omega⟩ rfl (Nat.le_of_ble_eq_true rfl) ?_
                  refine x_if_eq h 131 dX0_buyers_106 rfl (fun c106 => ?_) (fun c106 => ?_)
                  · skip
                    have hst : m_buyers J M (nI s9) i (nI zn) = (nI k, K) := by rw [hgo]; exact buyGo_2 c39 rfl hbf ep.symm (Or.inl (by rw [← e7]; exact c106))
                    refine x_iload h dX0_buyers_131 rfl ?_
                    refine x_wid h (by omega) (by omega) ?_
                    exact x_iret h dX0_buyers_133 rfl (by rw [hst]; first | exact ⟨rfl, hgk, hTk⟩ | exact ⟨rfl, grw.rf, hT⟩)
                  · skip
                    refine x_iload h dX0_buyers_109 rfl ?_
                    refine x_iconst h dX0_buyers_111 (0) rfl ?_
                    refine x_bipush h dX0_buyers_112 (9) rfl ?_
                    refine x_callSEi h (As := [.int _, .int _, .int _]) (k0_in l G nn _ _ hCk _ _ _ _ _ ) m_X0_7 dX0_buyers_114 ⟨by decide, by decide⟩ ⟨by omega, by omega⟩ rfl (Nat.le_of_ble_eq_true rfl) ?_
                    refine x_if_eq h 131 dX0_buyers_117 rfl (fun c117 => ?_) (fun c117 => ?_)
                    · skip
                      have hst : m_buyers J M (nI s9) i (nI zn) = (nI k, K) := by rw [hgo]; exact buyGo_2 c39 rfl hbf ep.symm (Or.inr (Or.inl (by rw [← e8]; exact c117)))
                      refine x_iload h dX0_buyers_131 rfl ?_
                      refine x_wid h (by omega) (by omega) ?_
                      exact x_iret h dX0_buyers_133 rfl (by rw [hst]; first | exact ⟨rfl, hgk, hTk⟩ | exact ⟨rfl, grw.rf, hT⟩)
                    · skip
                      refine x_iload h dX0_buyers_120 rfl ?_
                      refine x_iconst h dX0_buyers_122 (0) rfl ?_
                      refine x_bipush h dX0_buyers_123 (9) rfl ?_
                      refine x_callSEi h (As := [.int _, .int _, .int _]) (k0_in l G nn _ _ hCk _ _ _ _ _ ) m_X0_7 dX0_buyers_125 ⟨by decide, by decide⟩ ⟨by omega, by omega⟩ rfl (Nat.le_of_ble_eq_true rfl) ?_
                      refine x_if_ne h 134 dX0_buyers_128 rfl (fun c128 => ?_) (fun c128 => ?_)
                      · skip
                        have hn3 : ¬ (inR (m_told M (nI s9) (nI x)) 0 999 = 0 ∨ inR (m_told M (nI s9) (nI x + 1)) 0 9 = 0 ∨ inR (m_told M (nI s9) (nI x + 2)) 0 9 = 0) := fun y => by rw [← e7, ← e8, ← e9] at y; rcases y with y | y | y; exact c106 y; exact c117 y; exact c128 y
                        refine x_aload_n h dX0_buyers_134 rfl ?_
                        refine x_iload h dX0_buyers_135 rfl ?_
                        refine x_iload h dX0_buyers_137 rfl ?_
                        refine x_callVPa h (As := [.int _, .int _]) (k0_add l G nn _ _ hCk _ _ K M v79 v95 nb hTk hn8 enb) m_X0_25 (mlt hCk.1 rfl) (hCk.2.1 _ _ rfl) dX0_buyers_139 ⟨by decide, by decide⟩ ⟨by omega, by omega⟩ rfl (Nat.le_of_ble_eq_true rfl) (fun n139 Ty139 J139 L139 F139 hg139 hl139 ht139 hf139 hT139 => ?_)
                        have hC139 : WC n139 Ty139 F139 := hT139.1
                        refine x_iload h dX0_buyers_142 rfl ?_
                        refine x_putiN h p_X0_42 hl139 ht139 rfl rfl rfl dX0_buyers_144 (fun J144 eJ144 => ?_)
                        refine x_iinc h dX0_buyers_147 (by decide) rfl (nI (k + 1)) (nI_1 k) [some (.ref (xb G + 0)), some (.int (nI s9)), some (.int i), some (.int (nI zn)), some (.int (nI (k + 1))), some (.ref (xb G + q)), some (.int (nI k)), some (.int v63), some (.int v79), some (.int v95)] rfl ?_
                        refine x_iinc h dX0_buyers_150 (by decide) rfl (nI (k + 1)) (nI_1 k) [some (.ref (xb G + 0)), some (.int (nI s9)), some (.int i), some (.int (nI zn)), some (.int (nI (k + 1))), some (.ref (xb G + q)), some (.int (nI (k + 1))), some (.int v63), some (.int v79), some (.int v95)] rfl ?_
                        refine x_goto h 36 dX0_buyers_153 rfl ?_
                        refine x_wk (lv := [some (.ref (xb G + 0)), some (.int (nI s9)), some (.int i), some (.int (nI zn)), some (.int (nI (k + 1))), some (.ref (xb G + q)), some (.int (nI (k + 1))), none, none, none]) ?_ ⟨rfl, rfl, rfl, rfl, rfl, rfl, rfl, trivial⟩
                        exact ih (k + 1) n139 Ty139 J144 L139 F139 (m_newBuyer K v63 v79 v95) (by omega) (by have y := hT139.set (b := nI nb) (w := 0) (v := v63) (q := nn) (isOf_nb hn8 enb) ⟨fun z => absurd z (by decide), fun z => absurd z (by decide), fun z => absurd z (by decide)⟩ (fun _ => ⟨nb, hn8, rfl, hf139.1, ⟨hCk.1, hl139⟩, ht139⟩); rw [newBuyer_p hn8 enb] at y; rw [eJ144]; exact y) (hgk.tr hg139) (by omega) (by rw [hgo, buyGo_3 c39 rfl hbf ep.symm hn3, ← e7, ← e8, ← e9, show 8 - k = 8 - (k + 1) + 1 by omega]) ((hf139.2 33 s9 (Nat.lt_of_lt_of_le (by decide) hCk.1) (by decide)).trans hqk) (by rw [newBuyer_90 (Or.inl rfl)]; exact h9k)
                      · skip
                        have hst : m_buyers J M (nI s9) i (nI zn) = (nI k, K) := by rw [hgo]; exact buyGo_2 c39 rfl hbf ep.symm (Or.inr (Or.inr (by rw [← e9]; exact c128)))
                        refine x_iload h dX0_buyers_131 rfl ?_
                        refine x_wid h (by omega) (by omega) ?_
                        exact x_iret h dX0_buyers_133 rfl (by rw [hst]; first | exact ⟨rfl, hgk, hTk⟩ | exact ⟨rfl, grw.rf, hT⟩)
                · skip
                  have hst : m_buyers J M (nI s9) i (nI zn) = (nI k, K) := by rw [hgo]; exact buyGo_1 c39 rfl (by rw [ix_n (by omega), e91]; rcases hf with y | y; exact Or.inl y; exact Or.inr (Or.inl y))
                  refine x_aload h dX0_buyers_51 rfl ?_
                  refine x_iload_n h dX0_buyers_53 rfl ?_
                  refine x_iconst h dX0_buyers_54 (3) rfl ?_
                  refine x_iload h dX0_buyers_55 rfl ?_
                  refine x_imul h dX0_buyers_57 ?_
                  refine x_iadd h dX0_buyers_58 ?_
                  refine x_callVX h (As := [.int _]) (k25_atZ l hl G nn _ _ hCk _ _ q a zz (i + 3 * nI k) hqn hqT hf0 han haT hz6 hv) m_X0_38 hqn hqT dX0_buyers_59 ⟨by decide, by decide⟩ ⟨by omega, by omega⟩ rfl (Nat.le_of_ble_eq_true rfl) (fun E59 m59 Ty59 J59 L59 F59 hpx => ?_) (fun _ _ _ _ _ _ hp => absurd hp id)
                  obtain ⟨rfl, hn59, rfl, rfl, rfl, rfl⟩ := hpx
                  refine XN.catch h hTb (pre := [⟨22, 133, 159, 45⟩, ⟨134, 156, 159, 45⟩, ⟨22, 133, 164, 47⟩, ⟨134, 156, 164, 47⟩]) (x := ⟨22, 133, 169, 49⟩) (suf := _) rfl (fun z hz => by
                      rcases List.mem_cons.mp hz with rfl | hz
                      · exact Or.inr ⟨by decide, _, q184, by decide +kernel⟩
                      · rcases List.mem_cons.mp hz with rfl | hz
                        · exact Or.inl (by decide)
                        · rcases List.mem_cons.mp hz with rfl | hz
                          · exact Or.inr ⟨by decide, _, q269, by decide +kernel⟩
                          · rcases List.mem_cons.mp hz with rfl | hz
                            · exact Or.inl (by decide)
                            · cases hz) (by decide) (by decide) q294 q2259 (fun a9 => ?_)
                  refine x_astore h dX0_buyers_169 (by decide) [some (.ref (xb G + 0)), some (.int (nI s9)), some (.int i), some (.int (nI zn)), some (.int (nI k)), some (.ref a9), some (.int (nI k)), none, none, none] rfl ?_
                  refine x_iload h dX0_buyers_171 rfl ?_
                  refine x_wid h (by omega) (by omega) ?_
                  exact x_iret h dX0_buyers_173 rfl (by rw [hst]; first | exact ⟨rfl, hgk.tr (grw.xt hn59), hTk.gr hn59⟩ | exact ⟨rfl, hgk.tr (grw.xt hn75), hTk.gr hn75⟩ | exact ⟨rfl, hgk.tr (grw.xt hn91), hTk.gr hn91⟩)
                · skip
                  have hst : m_buyers J M (nI s9) i (nI zn) = (nI k, K) := by rw [hgo]; exact buyGo_1 c39 rfl (by rw [ix_n (by omega), e91]; rcases hf with y | y; exact Or.inl y; exact Or.inr (Or.inl y))
                  refine x_aload h dX0_buyers_51 rfl ?_
                  refine x_iload_n h dX0_buyers_53 rfl ?_
                  refine x_iconst h dX0_buyers_54 (3) rfl ?_
                  refine x_iload h dX0_buyers_55 rfl ?_
                  refine x_imul h dX0_buyers_57 ?_
                  refine x_iadd h dX0_buyers_58 ?_
                  refine x_eqi (nI x) ex ?_
                  refine x_callVEl h (As := [.int _]) (k25_at l G nn _ _ hCk _ _ q a zz (nI x) hqn hqT hf0 han haT (vp_in_nI (by omega) (by omega))) m_X0_38 hqn hqT dX0_buyers_59 ⟨by decide, by decide⟩ ⟨by omega, by omega⟩ rfl (Nat.le_of_ble_eq_true rfl) ?_
                  refine x_l2i h dX0_buyers_62 ?_
                  refine x_nmi (fun v63 ev63 => ?_)
                  refine x_istore h dX0_buyers_63 (by decide) [some (.ref (xb G + 0)), some (.int (nI s9)), some (.int i), some (.int (nI zn)), some (.int (nI k)), some (.ref (xb G + q)), some (.int (nI k)), some (.int v63), none, none] rfl ?_
                  refine x_aload h dX0_buyers_65 rfl ?_
                  refine x_iload_n h dX0_buyers_67 rfl ?_
                  refine x_iconst h dX0_buyers_68 (3) rfl ?_
                  refine x_iload h dX0_buyers_69 rfl ?_
                  refine x_imul h dX0_buyers_71 ?_
                  refine x_iadd h dX0_buyers_72 ?_
                  refine x_eqi (nI x) ex ?_
                  refine x_iconst h dX0_buyers_73 (1) rfl ?_
                  refine x_iaddE h (nI (x + 1)) (nI_add x 1) dX0_buyers_74 ?_
                  refine x_callVX h (As := [.int _]) (k25_atZ l hl G nn _ _ hCk _ _ q a zz (nI (x + 1)) hqn hqT hf0 han haT hz6 (fun y => y (Or.inr (by rw [nI_clamp (by omega)]; omega)))) m_X0_38 hqn hqT dX0_buyers_75 ⟨by decide, by decide⟩ ⟨by omega, by omega⟩ rfl (Nat.le_of_ble_eq_true rfl) (fun E75 m75 Ty75 J75 L75 F75 hpx => ?_) (fun _ _ _ _ _ _ hp => absurd hp id)
                  obtain ⟨rfl, hn75, rfl, rfl, rfl, rfl⟩ := hpx
                  refine XN.catch h hTb (pre := [⟨22, 133, 159, 45⟩, ⟨134, 156, 159, 45⟩, ⟨22, 133, 164, 47⟩, ⟨134, 156, 164, 47⟩]) (x := ⟨22, 133, 169, 49⟩) (suf := _) rfl (fun z hz => by
                      rcases List.mem_cons.mp hz with rfl | hz
                      · exact Or.inr ⟨by decide, _, q184, by decide +kernel⟩
                      · rcases List.mem_cons.mp hz with rfl | hz
                        · exact Or.inl (by decide)
                        · rcases List.mem_cons.mp hz with rfl | hz
                          · exact Or.inr ⟨by decide, _, q269, by decide +kernel⟩
                          · rcases List.mem_cons.mp hz with rfl | hz
                            · exact Or.inl (by decide)
                            · cases hz) (by decide) (by decide) q294 q2259 (fun a9 => ?_)
                  refine x_astore h dX0_buyers_169 (by decide) [some (.ref (xb G + 0)), some (.int (nI s9)), some (.int i), some (.int (nI zn)), some (.int (nI k)), some (.ref a9), some (.int (nI k)), some (.int v63), none, none] rfl ?_
                  refine x_iload h dX0_buyers_171 rfl ?_
                  refine x_wid h (by omega) (by omega) ?_
                  exact x_iret h dX0_buyers_173 rfl (by rw [hst]; first | exact ⟨rfl, hgk.tr (grw.xt hn59), hTk.gr hn59⟩ | exact ⟨rfl, hgk.tr (grw.xt hn75), hTk.gr hn75⟩ | exact ⟨rfl, hgk.tr (grw.xt hn91), hTk.gr hn91⟩)
                · skip
                  have hst : m_buyers J M (nI s9) i (nI zn) = (nI k, K) := by rw [hgo]; exact buyGo_1 c39 rfl (by rw [ix_n (by omega), e91]; rcases hf with y | y; exact Or.inl y; exact Or.inr (Or.inl y))
                  refine x_aload h dX0_buyers_51 rfl ?_
                  refine x_iload_n h dX0_buyers_53 rfl ?_
                  refine x_iconst h dX0_buyers_54 (3) rfl ?_
                  refine x_iload h dX0_buyers_55 rfl ?_
                  refine x_imul h dX0_buyers_57 ?_
                  refine x_iadd h dX0_buyers_58 ?_
                  refine x_eqi (nI x) ex ?_
                  refine x_callVEl h (As := [.int _]) (k25_at l G nn _ _ hCk _ _ q a zz (nI x) hqn hqT hf0 han haT (vp_in_nI (by omega) (by omega))) m_X0_38 hqn hqT dX0_buyers_59 ⟨by decide, by decide⟩ ⟨by omega, by omega⟩ rfl (Nat.le_of_ble_eq_true rfl) ?_
                  refine x_l2i h dX0_buyers_62 ?_
                  refine x_nmi (fun v63 ev63 => ?_)
                  refine x_istore h dX0_buyers_63 (by decide) [some (.ref (xb G + 0)), some (.int (nI s9)), some (.int i), some (.int (nI zn)), some (.int (nI k)), some (.ref (xb G + q)), some (.int (nI k)), some (.int v63), none, none] rfl ?_
                  refine x_aload h dX0_buyers_65 rfl ?_
                  refine x_iload_n h dX0_buyers_67 rfl ?_
                  refine x_iconst h dX0_buyers_68 (3) rfl ?_
                  refine x_iload h dX0_buyers_69 rfl ?_
                  refine x_imul h dX0_buyers_71 ?_
                  refine x_iadd h dX0_buyers_72 ?_
                  refine x_eqi (nI x) ex ?_
                  refine x_iconst h dX0_buyers_73 (1) rfl ?_
                  refine x_iaddE h (nI (x + 1)) (nI_add x 1) dX0_buyers_74 ?_
                  refine x_callVEl h (As := [.int _]) (k25_at l G nn _ _ hCk _ _ q a zz (nI (x + 1)) hqn hqT hf0 han haT (vp_in_nI (by omega) (by omega))) m_X0_38 hqn hqT dX0_buyers_75 ⟨by decide, by decide⟩ ⟨by omega, by omega⟩ rfl (Nat.le_of_ble_eq_true rfl) ?_
                  refine x_l2i h dX0_buyers_78 ?_
                  refine x_nmi (fun v79 ev79 => ?_)
                  refine x_istore h dX0_buyers_79 (by decide) [some (.ref (xb G + 0)), some (.int (nI s9)), some (.int i), some (.int (nI zn)), some (.int (nI k)), some (.ref (xb G + q)), some (.int (nI k)), some (.int v63), some (.int v79), none] rfl ?_
                  refine x_aload h dX0_buyers_81 rfl ?_
                  refine x_iload_n h dX0_buyers_83 rfl ?_
                  refine x_iconst h dX0_buyers_84 (3) rfl ?_
                  refine x_iload h dX0_buyers_85 rfl ?_
                  refine x_imul h dX0_buyers_87 ?_
                  refine x_iadd h dX0_buyers_88 ?_
                  refine x_eqi (nI x) ex ?_
                  refine x_iconst h dX0_buyers_89 (2) rfl ?_
                  refine x_iaddE h (nI (x + 2)) (nI_add x 2) dX0_buyers_90 ?_
                  refine x_callVX h (As := [.int _]) (k25_atZ l hl G nn _ _ hCk _ _ q a zz (nI (x + 2)) hqn hqT hf0 han haT hz6 (fun y => y (Or.inr (by rw [nI_clamp (by omega)]; omega)))) m_X0_38 hqn hqT dX0_buyers_91 ⟨by decide, by decide⟩ ⟨by omega, by omega⟩ rfl (Nat.le_of_ble_eq_true rfl) (fun E91 m91 Ty91 J91 L91 F91 hpx => ?_) (fun _ _ _ _ _ _ hp => absurd hp id)
                  obtain ⟨rfl, hn91, rfl, rfl, rfl, rfl⟩ := hpx
                  refine XN.catch h hTb (pre := [⟨22, 133, 159, 45⟩, ⟨134, 156, 159, 45⟩, ⟨22, 133, 164, 47⟩, ⟨134, 156, 164, 47⟩]) (x := ⟨22, 133, 169, 49⟩) (suf := _) rfl (fun z hz => by
                      rcases List.mem_cons.mp hz with rfl | hz
                      · exact Or.inr ⟨by decide, _, q184, by decide +kernel⟩
                      · rcases List.mem_cons.mp hz with rfl | hz
                        · exact Or.inl (by decide)
                        · rcases List.mem_cons.mp hz with rfl | hz
                          · exact Or.inr ⟨by decide, _, q269, by decide +kernel⟩
                          · rcases List.mem_cons.mp hz with rfl | hz
                            · exact Or.inl (by decide)
                            · cases hz) (by decide) (by decide) q294 q2259 (fun a9 => ?_)
                  refine x_astore h dX0_buyers_169 (by decide) [some (.ref (xb G + 0)), some (.int (nI s9)), some (.int i), some (.int (nI zn)), some (.int (nI k)), some (.ref a9), some (.int (nI k)), some (.int v63), some (.int v79), none] rfl ?_
                  refine x_iload h dX0_buyers_171 rfl ?_
                  refine x_wid h (by omega) (by omega) ?_
                  exact x_iret h dX0_buyers_173 rfl (by rw [hst]; first | exact ⟨rfl, hgk.tr (grw.xt hn59), hTk.gr hn59⟩ | exact ⟨rfl, hgk.tr (grw.xt hn75), hTk.gr hn75⟩ | exact ⟨rfl, hgk.tr (grw.xt hn91), hTk.gr hn91⟩)
        exact lp36 10 0 n Ty I L F J (by decide) hT grw.rf (by decide) (by unfold m_buyers; rw [if_neg c4, if_neg c14, ix_n (by omega), h90, if_neg (by decide), if_neg (fun z => z rfl)]) hq h90
      · skip
        obtain ⟨C9, T9, N9, hcl9, hp9⟩ := noshort hci
        have hst : m_buyers J M (nI s9) i (nI zn) = (-12, J) := by unfold m_buyers; rw [if_neg c4, if_neg c14, ix_n (by omega), h90, if_neg (fun z => by have y := congrArg Int32.toInt z; rw [nI_toInt (by omega), show (-1 : Int32).toInt = -1 from rfl] at y; omega), if_pos (fun z => by have y := congrArg Int32.toInt z; rw [nI_toInt (by omega), show (1 : Int32).toInt = 1 from rfl] at y; omega)]
        refine x_aaldr h (q := q) (mlt hC.1 rfl) (hC.2.1 _ _ rfl) (by decide) rfl rfl (vp_in_nI hs9 (by decide)) (s9) (nI_clamp (by omega)) hq dX0_buyers_27 ?_
        refine x_castF h q316 hqn hqT hcl9 hp9 dX0_buyers_28 (fun t9 ht9 hn9 => x_note h hl xb_cce ht9 hn9 (by decide) ⟨by decide, by decide⟩ (Nat.le_of_ble_eq_true rfl) (fun n9 hn99 => XN.catch h hTb (pre := []) (x := ⟨22, 133, 159, 45⟩) (suf := _) rfl (fun z hz => absurd hz List.not_mem_nil) (by decide) (by decide) q184 q246 (fun a9 => ?_)))
        refine x_astore h dX0_buyers_159 (by decide) [some (.ref (xb G + 0)), some (.int (nI s9)), some (.int i), some (.int (nI zn)), some (.int 0), some (.ref a9), none, none, none, none] rfl ?_
        refine x_bipush h dX0_buyers_161 (-12) rfl ?_
        refine x_wid h (by decide) (by decide) ?_
        exact x_iret h dX0_buyers_163 rfl (by rw [hst]; exact ⟨rfl, grw.xt hn99, hT.gr hn99⟩)
    · skip
      have hst : m_buyers J M (nI s9) i z = (-1, J) := by unfold m_buyers; rw [if_neg c4, if_pos c14]
      refine x_iconst h dX0_buyers_17 (-1) rfl ?_
      refine x_wid h (by decide) (by decide) ?_
      exact x_iret h dX0_buyers_18 rfl (by rw [hst]; exact ⟨rfl, grw.rf, hT⟩)
