/-! BOUNDS of draws, orders, rings -/
theorem i_nat (x : Int32) : x = nI x.toBitVec.toNat := by
  apply Int32.toBitVec_inj.mp
  show x.toBitVec = BitVec.ofNat 32 x.toBitVec.toNat
  simp
theorem ush_8 (x : Int32) : ∃ a : Nat, a < 16777216 ∧ ush x 8 = nI a := by
  have e := i_nat x
  have hl := x.toBitVec.isLt
  generalize x.toBitVec.toNat = m at e hl
  subst e
  exact ⟨m / 2 ^ 8, by omega, pk_ushrN hl 8 8 (by decide)⟩
theorem irm_n {a d : Nat} (ha : a < 2 ^ 31) (h0 : 0 < d) (hd : d < 2 ^ 31) : irm (nI a) (nI d) = nI (a % d) := pk_rem ha h0 hd
theorem drw_in {x : Int32} {b : Nat} (h0 : 0 < b) (hb : b < 9) : vp_in (irm (ush x 8) (nI b)) 8 := by
  obtain ⟨a, ha, e⟩ := ush_8 x
  rw [e, irm_n (by omega) h0 (by omega)]
  have := Nat.mod_lt a h0
  exact vp_in_nI (by omega) (by decide)
def drD (J0 J : xI_T) : Prop := Wmk J ∧ Wlaw J ∧ J 70 0 = J0 70 0 ∧ J 70 2 = J0 70 2 ∧ ∀ j : Nat, J 93 j = J0 93 j
theorem drD.ends {J0 J : xI_T} (h : drD J0 J) : drD J0 (m_ends J) := by
  obtain ⟨h1, h2, h3, h4, h5⟩ := h
  refine ⟨h1.mv ?_ ?_ fun j _ _ => ?_, h2.mv ?_ fun q j _ _ => ?_, ?_, ?_, fun j => ?_⟩
  · exact ends_o (by omega)
  · exact ends_o (by omega)
  · exact ends_o (by omega)
  · exact ends_o (by omega)
  · exact ends_o (by omega)
  · rw [ends_o (by omega)]; exact h3
  · rw [ends_o (by omega)]; exact h4
  · rw [ends_o (by omega)]; exact h5 j
theorem drD.goes {J0 J : xI_T} {c : Int32} (h : drD J0 J) (hc : vp_in c 8) : drD J0 (m_goes1 J c) := by
  obtain ⟨h1, h2, h3, h4, h5⟩ := h
  exact ⟨h1.goes1 hc, h2.goes1, by rw [goes1_o ⟨by decide, by decide, by decide, by decide, fun _ => Or.inl (by decide)⟩]; exact h3, by rw [goes1_o ⟨by decide, by decide, by decide, by decide, fun _ => Or.inl (by decide)⟩]; exact h4, fun j => by rw [goes1_o (gz_q ⟨by decide, by decide, by decide, by decide, by decide⟩)]; exact h5 j⟩
theorem drD.lays {I J0 J : xI_T} (h : drD J0 J) (hb : J0 = m_begins I) (hM : Wmk I) : drD J0 (m_lays J 93 0) := by
  obtain ⟨h1, h2, h3, h4, h5⟩ := h
  refine ⟨hM.mv ?_ ?_ fun j _ hj => ?_, h2.mv (lays_o (by decide)) fun q j _ _ => lays_o (by omega), by rw [lays_o (by decide)]; exact h3, by rw [lays_o (by decide)]; exact h4, fun j => by rw [lays_o (by decide)]; exact h5 j⟩
  · rw [lays_o (by decide), h3, hb, begins_o (by decide) (by decide) (by decide)]
  · rw [lays_o (by decide), h4, hb, begins_o (by decide) (by decide) (by decide)]
  · rw [lays_72 (by omega), h5, hb]
    unfold m_begins
    rw [fil2_ap, if_neg (by omega), up2_i _ _ (by decide), keeps_a (by omega)]
theorem drGo1_a {c : Int32} {j : Nat} {y x : Int32 × xI_T} {z : Int32} (hx : x = m_drGo1 c j y) (hz : z = x.1 * 1103515245 + 12345) (h : irm (ush z 16) 12 < c) : m_drGo1 c (j + 1) y = (z, m_goes1 (m_ends x.2) (irm (ush z 8) (x.2 70 0))) := by
  subst hz
  subst hx
  simp only [m_drGo1, if_pos h]
theorem drGo1_b {c : Int32} {j : Nat} {y x : Int32 × xI_T} {z : Int32} (hx : x = m_drGo1 c j y) (hz : z = x.1 * 1103515245 + 12345) (h : ¬ irm (ush z 16) 12 < c) : m_drGo1 c (j + 1) y = (z, m_goes1 x.2 (irm (ush z 8) (x.2 70 0))) := by
  subst hz
  subst hx
  simp only [m_drGo1, if_neg h]
theorem drGo2_a {c one : Int32} {m k : Nat} {s y : (Int32 × Int32) × xI_T} {x : Int32 × xI_T} (hy : y = m_drGo2 c one m k s) (hx : x = m_drGo1 c m (y.1.1, y.2)) (h : one = -1) : m_drGo2 c one m (k + 1) s = ((x.1, y.1.2), m_lays x.2 93 0) := by
  subst hy
  subst hx
  simp only [m_drGo2, if_pos h]
theorem drGo2_b {c one : Int32} {m k : Nat} {s y : (Int32 × Int32) × xI_T} {x : Int32 × xI_T} (hy : y = m_drGo2 c one m k s) (hx : x = m_drGo1 c m (y.1.1, y.2)) (h : ¬ one = -1) : m_drGo2 c one m (k + 1) s = ((x.1, y.1.2 + x.2 72 (ix one)), m_lays x.2 93 0) := by
  subst hy
  subst hx
  simp only [m_drGo2, if_neg h]
def m_drawnZ (I : xI_T) (seed nmd one : Int32) : (Int32 × Int32) × xI_T := if I 70 0 ≤ 0 then ((seed, 0), m_begins I) else m_drGo2 (irm nmd 100) one (ix (irm (nmd / 100) 100)) (ix (nmd / 10000)) ((seed, 0), m_begins I)
def m_drawnB (I : xI_T) (seed nmd one : Int32) : Int32 × xI_T := (if one = -1 then (m_drawnZ I seed nmd one).2 70 43 else (m_drawnZ I seed nmd one).1.2, (m_drawnZ I seed nmd one).2)
theorem drZ_0 {I : xI_T} {seed nmd one : Int32} (h : I 70 0 ≤ 0) : m_drawnZ I seed nmd one = ((seed, 0), m_begins I) := by
  unfold m_drawnZ
  rw [if_pos h]
theorem drZ_1 {I : xI_T} {seed nmd one : Int32} {m Y b : Nat} (hb : I 70 0 = nI b) (h0 : 0 < b) (h9 : b < 9) (hm : irm (nmd / 100) 100 = nI m) (hm6 : m < 61) (hY : nmd / 10000 = nI Y) (hY3 : Y < 31) : m_drawnZ I seed nmd one = m_drGo2 (irm nmd 100) one m Y ((seed, 0), m_begins I) := by
  unfold m_drawnZ
  rw [if_neg (by rw [hb]; exact nI_nle h0 (by omega)), hm, hY, ix_n (by omega), ix_n (by omega)]
theorem inR_nat {x lo : Int32} {hi : Int32} (l N : Nat) (h : ¬ inR x lo hi = 0) (hl : lo.toInt = l) (hN : hi.toInt = N) (hN2 : N < 1000000) : ∃ j : Nat, l ≤ j ∧ j ≤ N ∧ x = nI j := by
  obtain ⟨h1, h2⟩ := inR_n.mp h
  rw [i_lt, hl] at h1
  rw [i_lt, hN] at h2
  obtain ⟨j, hj, rfl⟩ := vp_in_of (x := x) (n := N + 1) (vp_in_iff.mpr (by omega)) (by omega)
  rw [nI_toInt (by omega)] at h1
  exact ⟨j, by omega, by omega, rfl⟩
-- orders
def pcn (t : Nat) : Nat := t % 2 + t / 2 % 2 + t / 4 % 2 + t / 8 % 2 + t / 16 % 2 + t / 32 % 2 + t / 64 % 2 + t / 128 % 2
set_option maxRecDepth 100000 in
theorem ordb0 : ∀ t : Fin 256, ∀ b : Fin 8, (nI t.1 >>> (nI b.1 &&& 31)) &&& 1 = 0 ∨ (nI t.1 &&& ((1 <<< (nI b.1 &&& 31)) ^^^ (-1)) = nI (t.1 - 2 ^ b.1) ∧ pcn (t.1 - 2 ^ b.1) + 1 = pcn t.1) := by decide +kernel
set_option maxRecDepth 100000 in
theorem bitc0 : ∀ t : Fin 256, bitc (nI t.1) = nI (pcn t.1) := by decide +kernel
theorem ordb {t b : Nat} (ht : t < 256) (hb : b < 8) (h : ¬ (nI t >>> (nI b &&& 31)) &&& 1 = 0) : ∃ u : Nat, u < 256 ∧ nI t &&& ((1 <<< (nI b &&& 31)) ^^^ (-1)) = nI u ∧ pcn u + 1 = pcn t := by
  rcases ordb0 ⟨t, ht⟩ ⟨b, hb⟩ with q | q
  · exact absurd q h
  · exact ⟨t - 2 ^ b, Nat.lt_of_le_of_lt (Nat.sub_le _ _) ht, q.1, q.2⟩
theorem pcn_0 {t : Nat} (ht : t < 256) (h : pcn t = 0) : t = 0 := by
  have hd : ∀ t : Fin 256, pcn t.1 = 0 → t.1 = 0 := by decide +kernel
  exact hd ⟨t, ht⟩ h
theorem pcn_z : pcn 0 = 0 := rfl
theorem pursB_7 {I : xI_T} {o : Int32} {j : Nat} (h : j < 31) : (m_pursB I o).2 72 j = I 72 j := by
  show m_lays (m_behind I) 93 0 72 j = I 72 j
  rw [lays_72 h]
  unfold m_behind m_goes
  rw [goGo_o (gz3_q (Or.inr (Or.inl rfl)))]
  unfold m_begins
  rw [fil2_ap, if_neg (by omega), up2_i _ _ (by decide), keeps_a h]
def m_ordF (one : Int32) (e i : Nat) (left : Int32) : Nat → xI_T → xI_T := fun b J => if (left >>> (nI b &&& 31)) &&& 1 = 0 then J else m_ord one e (i + 1) (left &&& ((1 <<< (nI b &&& 31)) ^^^ (-1))) (up2 J 100 i (nI b))
theorem ord_0 {one : Int32} {e i : Nat} {left : Int32} {I : xI_T} (h : left = 0) : m_ord one (e + 1) i left I = m_ordL one i I := by
  rw [m_ord, if_pos h]
theorem ord_1 {one : Int32} {e i : Nat} {left : Int32} {I : xI_T} (h : ¬ left = 0) : m_ord one (e + 1) i left I = itI (m_ordF one e i left) (ix (I 70 0)) I := by
  rw [m_ord, if_neg h]
  rfl
def ordK (i : Nat) (I J : xI_T) : Prop := (∀ q j : Nat, gz3 q j → q ≠ 93 → q ≠ 96 → q ≠ 100 → q ≠ 101 → (q = 70 → j < 40) → J q j = I q j) ∧ (∀ j : Nat, j < i → J 100 j = I 100 j) ∧ ∀ j : Nat, j < 31 → J 72 j = I 72 j
theorem ordK.rf {i : Nat} {I : xI_T} : ordK i I I := ⟨fun _ _ _ _ _ _ _ _ => rfl, fun _ _ => rfl, fun _ _ => rfl⟩
theorem ordK.tr {i : Nat} {I J K : xI_T} (h : ordK i I J) (g : ordK i J K) : ordK i I K := ⟨fun q j a b c d e f => (g.1 q j a b c d e f).trans (h.1 q j a b c d e f), fun j hj => (g.2.1 j hj).trans (h.2.1 j hj), fun j hj => (g.2.2 j hj).trans (h.2.2 j hj)⟩
theorem ordK.at {i : Nat} {v : Int32} {I J : xI_T} (h : ordK (i + 1) (up2 I 100 i v) J) : ordK i I J :=
  ⟨fun q j a b c d e f => by rw [h.1 q j a b c d e f, up2_i _ _ d], fun j hj => by rw [h.2.1 j (by omega), up2_k _ _ (by omega)], fun j hj => by rw [h.2.2 j hj, up2_i _ _ (by decide)]⟩
def ordR (i : Nat) (I : xI_T) : xI_T := cpy2 (up2 I 70 45 (nI i)) 96 0 100 0 i
theorem ordR_o {i q j : Nat} {I : xI_T} (h : q ≠ 96) (h2 : ¬ (q = 70 ∧ j = 45)) : ordR i I q j = I q j := by
  unfold ordR
  rw [cpy2_ap, if_neg (fun z => h z.1), up2_n _ _ h2]
theorem ordL_K {one : Int32} {i : Nat} {I : xI_T} : ordK i I (m_ordL one i I) := by
  have hz : ordK i I (m_pursB (ordR i I) one).2 := by
    refine ⟨fun q j a b c d e f => ?_, fun j hj => ?_, fun j hj => ?_⟩
    · rw [pursB_o a b, ordR_o c (fun z => by have := f z.1; omega)]
    · rw [pursB_o ⟨gz_q ⟨by decide, by decide, by decide, by decide, by decide⟩, by decide, by decide, by decide⟩ (by decide), ordR_o (by decide) (by omega)]
    · rw [pursB_7 hj, ordR_o (by decide) (by omega)]
  have e : m_ordL one i I = if (m_pursB (ordR i I) one).1 ≤ (m_pursB (ordR i I) one).2 70 52 then (m_pursB (ordR i I) one).2 else cpy2 (up2 (m_pursB (ordR i I) one).2 70 52 (m_pursB (ordR i I) one).1) 101 0 100 0 i := rfl
  rw [e]
  split
  · exact hz
  · refine hz.tr ⟨fun q j a b c d e f => ?_, fun j hj => ?_, fun j hj => ?_⟩
    · rw [cpy2_ap, if_neg (fun z => e z.1), up2_n _ _ (fun z => by have := f z.1; omega)]
    · rw [cpy2_ap, if_neg (by omega), up2_i _ _ (by decide)]
    · rw [cpy2_ap, if_neg (by omega), up2_i _ _ (by decide)]
theorem ordF_K {one left : Int32} {e i k : Nat} {I J : xI_T} (ih : ∀ (left : Int32) (I : xI_T), ordK (i + 1) I (m_ord one e (i + 1) left I)) (h : ordK i I J) : ordK i I (m_ordF one e i left k J) := by
  unfold m_ordF
  split
  · exact h
  · exact h.tr (ih _ _).at
theorem ord_K {one : Int32} : ∀ (e i : Nat) (left : Int32) (I : xI_T), ordK i I (m_ord one e i left I)
  | 0, _, _, _ => ordK.rf
  | e + 1, i, left, I => by
    by_cases h : left = 0
    · rw [ord_0 h]
      exact ordL_K
    · rw [ord_1 h]
      have hk : ∀ k : Nat, ordK i I (itI (m_ordF one e i left) k I) := by
        intro k
        induction k with
        | zero => exact ordK.rf
        | succ k ih => exact ordF_K (fun left I => ord_K e (i + 1) left I) ih
      exact hk _
theorem ordK.W {i : Nat} {I J : xI_T} (h : ordK i I J) (hM : Wmk I) (hW : Wlaw I) : Wmk J ∧ Wlaw J ∧ J 70 0 = I 70 0 := by
  have g70 : ∀ j : Nat, j < 40 → J 70 j = I 70 j := fun j hj => h.1 70 j (gz3_70 (Or.inl hj)) (by decide) (by decide) (by decide) (by decide) (fun _ => hj)
  exact ⟨hM.mv (g70 0 (by decide)) (g70 2 (by decide)) fun j _ h2 => h.2.2 j (by omega), hW.mv (g70 8 (by decide)) fun q j h1 h2 => h.1 q j (gz3_l h1 h2) (by omega) (by omega) (by omega) (by omega) (by omega), g70 0 (by decide)⟩
theorem ordR_W {i : Nat} {I : xI_T} (hM : Wmk I) (hW : Wlaw I) (ht : ∀ j : Nat, j < i → vp_in (I 100 j) 8) (hi : i ≤ 5) : Wall (ordR i I) := by
  refine ⟨hM.mv (ordR_o (by decide) (by omega)) (ordR_o (by decide) (by omega)) fun j _ _ => ordR_o (by decide) (by omega), hW.mv (ordR_o (by decide) (by omega)) fun q j _ _ => ordR_o (by omega) (by omega), ?_, fun k hk h20 => ?_⟩
  · unfold ordR
    rw [cpy2_ap, if_neg (by omega), up2_s]
    exact vp_in_nI (by omega) (by decide)
  · unfold ordR at hk ⊢
    rw [cpy2_ap, if_neg (by omega), up2_s] at hk
    have hk2 : k < i := (nI_ltI (by omega) (by omega)).mp hk
    rw [cpy2_ap, if_pos ⟨rfl, by omega, by omega⟩, up2_i _ _ (by decide), show 0 + (k - 0) = k by omega]
    exact ht k hk2
def OrdP (e : Nat) : Prop := ∀ (l : Launch) (G : xG_T) (n : Nat) (_ : 103 ≤ n) (I : xI_T) (L : xL_T) (i t : Nat) (o : Int32) (_ : i + pcn t ≤ 5) (_ : pcn t < e) (_ : t < 256) (_ : Wmk I) (_ : Wlaw I) (_ : ∀ j : Nat, j < i → vp_in (I 100 j) 8) (_ : vp_in o 8), CM l (7 + e) yX3_orders cX3_orders 6 none G n [.ref (xb G + 70), .int (nI i), .int (nI t), .int o] I L none (m_ord o e i (nI t) I) L
theorem set_t {set : Int32} {b : Nat} (hb : b < 9) (h : ¬ inR set 0 ((1 <<< (nI b &&& 31)) - 1) = 0) : ∃ t : Nat, t < 256 ∧ set = nI t := by
  have hb2 : ∀ b : Fin 9, ((1 <<< (nI b.1 &&& 31)) - 1 : Int32).toInt ≤ 255 := by decide +kernel
  have h3 := hb2 ⟨b, hb⟩
  obtain ⟨h1, h2⟩ := inR_n.mp h
  rw [i_lt, show (0 : Int32).toInt = 0 from rfl] at h1
  rw [i_lt] at h2
  exact vp_in_of (vp_in_iff.mpr (by simp only at h3; omega)) (by decide)
def m_orderB (I : xI_T) (t : Nat) (one k : Int32) : Int32 × xI_T := (if k = -1 then m_ord one 6 0 (nI t) (up2 I 70 52 (-1)) 70 52 else m_ord one 6 0 (nI t) (up2 I 70 52 (-1)) 101 (ix k), m_ord one 6 0 (nI t) (up2 I 70 52 (-1)))
theorem ord_k {k : Int32} {t : Nat} (h1 : -1 ≤ k) (h2 : k < nI t) (h3 : ¬ k = -1) (h5 : t ≤ 5) : vp_in k 5 := by
  rw [i_le, show (-1 : Int32).toInt = -1 from rfl] at h1
  rw [i_lt, nI_toInt (by omega)] at h2
  rw [i_eq, show (-1 : Int32).toInt = -1 from rfl] at h3
  exact vp_in_iff.mpr (by omega)
-- rings
def ringc (I : xI_T) (c : Nat) : xI_T := fun q j => if q = 102 ∧ j < c then (if I 95 j ≤ 0 then 99 else 1) else I q j
theorem ringc_z {I : xI_T} : ringc I 0 = I := by
  funext q j
  unfold ringc
  rw [if_neg (by omega)]
theorem ringc_up {I J : xI_T} {c : Nat} {v : Int32} (hJ : J = ringc I c) (hv : v = if J 95 c ≤ 0 then 99 else 1) : up2 J 102 c v = ringc I (c + 1) := by
  subst hJ
  have e : ringc I c 95 c = I 95 c := by
    unfold ringc
    rw [if_neg (by omega)]
  rw [e] at hv
  subst hv
  funext q j
  rw [up2_ap]
  unfold ringc
  by_cases h : q = 102 ∧ j = c
  · rw [if_pos h, if_pos (show q = 102 ∧ j < c + 1 from ⟨h.1, by omega⟩), h.2]
  · rw [if_neg h]
    by_cases h2 : q = 102 ∧ j < c
    · rw [if_pos h2, if_pos (show q = 102 ∧ j < c + 1 from ⟨h2.1, by omega⟩)]
    · rw [if_neg h2, if_neg (by omega)]
theorem ring_rem {i : Nat} (hi : i < 1000) : nI i - nI i / 8 * 8 = nI (i % 8) := pk_rem (a := i) (d := 8) (by omega) (by decide) (by decide)
def m_fwI (b : Nat) : Nat → xI_T → xI_T := fun i M => m_fw1 b i M
def m_fwO : Nat → xI_T → xI_T := fun b K => itI (m_fwI b) 64 K
def m_roundB (I : xI_T) (L : xL_T) (s w : Int32) : Int32 × xI_T :=
  if m_noB I s < 0 then (m_noB I s, I) else if I 70 0 = 0 then (-2, I) else
  if w = 0 then m_ring (m_lays (m_behind (m_reads I L s)) 93 0) else (m_gain (m_behind (m_reads I L s)) (ix (I 70 0) - 1), m_lays (m_behind (m_reads I L s)) 93 0)
theorem gain_n {J : xI_T} : ∀ k : Nat, ∃ f : Nat, f ≤ k ∧ m_gain J k = nI f
  | 0 => ⟨0, Nat.le_refl _, rfl⟩
  | k + 1 => by
    obtain ⟨f, hf, e⟩ := gain_n (J := J) k
    simp only [m_gain]
    split
    · exact ⟨f, by omega, e⟩
    · exact ⟨k + 1, Nat.le_refl _, rfl⟩
theorem gain_a {J : xI_T} {k f : Nat} (hf : nI f = m_gain J k) (hf9 : f < 100) (h : J 72 (k + 1) - J 93 (k + 1) ≤ J 72 f - J 93 f) : nI f = m_gain J (k + 1) := by
  simp only [m_gain]
  rw [← hf, ix_n (by omega), if_pos h]
theorem gain_b {J : xI_T} {k f : Nat} (hf : nI f = m_gain J k) (hf9 : f < 100) (h : ¬ J 72 (k + 1) - J 93 (k + 1) ≤ J 72 f - J 93 f) : nI (k + 1) = m_gain J (k + 1) := by
  simp only [m_gain]
  rw [← hf, ix_n (by omega), if_neg h]
theorem tried_up {I J : xI_T} {i k : Nat} (hK : ordK i I J) (ht8 : ∀ j : Nat, j < i → vp_in (I 100 j) 8) (hk : k < 8) : ∀ j : Nat, j < i + 1 → vp_in (up2 J 100 i (nI k) 100 j) 8 := by
  intro j hj
  rw [up2_ap]
  by_cases z : j = i
  · rw [if_pos ⟨rfl, z⟩]
    exact vp_in_nI (by omega) (by decide)
  · rw [if_neg (fun q => z q.2), hK.2.1 j (by omega)]
    exact ht8 j (by omega)
theorem ring_1 {I J : xI_T} (h : J = m_fw (m_ring0 I)) : m_ring I = (if m_least J 8 = 99 then -2 else m_least J 8, J) := by
  subst h
  simp only [m_ring]
theorem Wmk.begins {I : xI_T} (h : Wmk I) : Wmk (m_begins I) := by
  refine h.mv ?_ ?_ fun j _ _ => ?_
  all_goals exact begins_o (by omega) (by omega) (by omega)
theorem Wlaw.begins {I : xI_T} (h : Wlaw I) : Wlaw (m_begins I) := by
  refine h.mv ?_ fun q j h1 h2 => ?_
  all_goals exact begins_o (by omega) (by omega) (by omega)
theorem drD.begins {I J : xI_T} (e : J = m_begins I) (h : Wmk I) (h2 : Wlaw I) : drD J J := by
  subst e
  exact ⟨h.begins, h2.begins, rfl, rfl, fun _ => rfl⟩
