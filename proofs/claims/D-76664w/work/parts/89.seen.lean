/-! WHAT WAS SEEN, on both sides -/
def RS (I J : xI_T) (M : xL_T) (s zs : Nat) : Prop := (I 0 23 = nI zs ∧ zs ≤ 60) ∧ J 91 s = nI zs ∧ ∀ k : Nat, k < zs → I 24 k = (M 92 (60 * s + k)).toInt32
theorem RS.mv {I I' J J' : xI_T} {M : xL_T} {s zs : Nat} (h : RS I J M s zs) (h1 : I' 0 23 = I 0 23) (h2 : ∀ k : Nat, I' 24 k = I 24 k) (h3 : J' 91 s = J 91 s) : RS I' J' M s zs := ⟨⟨h1.trans h.1.1, h.1.2⟩, h3.trans h.2.1, fun k hk => (h2 k).trans (h.2.2 k hk)⟩
theorem KS.mv4 {n : Nat} {Ty : Nat → xs_T} {I I' : xI_T} {F : xF_T} {J J' : xI_T} (h : KS n Ty I F J) (h1 : ∀ q k : Nat, 103 ≤ q → I' q k = I q k) (h01 : I' 0 1 = I 0 1) (h03 : I' 0 3 = I 0 3) (j0 : J' 70 0 = J 70 0) (j3 : J' 70 3 = J 70 3) (j7 : J' 70 7 = J 70 7) (j8 : J' 70 8 = J 70 8) (j71 : ∀ k : Nat, 8 ≤ k → J' 71 k = J 71 k) (j74 : ∀ q k : Nat, 74 ≤ q → q ≤ 77 → J' q k = J q k) : KS n Ty I' F J' :=
  ⟨h.1.mv h1 h01 h03 j0 j3 j71, h.2.mv h1 j74 j7 j8⟩
/-- what a comparing of a row with what was seen stands on -/
def UN (n : Nat) (Ty : Nat → xs_T) (I : xI_T) (F : xF_T) (K : xI_T) (M : xL_T) (s z zs : Nat) : Prop := (KS n Ty I F (m_begins K) ∧ RC I (m_begins K) 34) ∧ (Wall K ∧ RW I K z ∧ K 70 45 = nI z) ∧ RS I K M s zs
theorem unl_1 {K : xI_T} {M : xL_T} {s : Int32} : (m_unl K M s).1 = m_unlGo (m_lays (m_behind K) 93 0) M s 61 0 := rfl
theorem unl_2 {K : xI_T} {M : xL_T} {s : Int32} : (m_unl K M s).2 = (m_pursB K 0).2 := rfl
theorem unl_91 {K : xI_T} {s : Nat} (hs : s < 6) : m_lays (m_behind K) 93 0 91 (ix (nI s)) = K 91 s := by
  rw [ix_n (by omega), lays_o (by decide), behind_o (gz3_q (Or.inr (Or.inr (Or.inl rfl)))) (by decide)]
theorem unl_45 {K : xI_T} : m_lays (m_behind K) 93 0 70 45 = K 70 45 := by rw [lays_o (by decide), behind_70 (Or.inr (by decide))]
theorem unl_97 {K : xI_T} {z k : Nat} (h45 : K 70 45 = nI z) (hz : z ≤ 20) (hk : k < z) : m_lays (m_behind K) 93 0 97 k = m_goGo (k + 1) (m_begins K) 97 k := by
  rw [lays_o (by decide), behind_z h45 (by omega), show z = k + 1 + (z - (k + 1)) by omega]
  exact goGo_9 (Or.inl rfl) _
/-! tries of another third, of another coming, of other wants -/
def eqX (X : Nat → Nat → Prop) (K J : xI_T) : Prop := Wall K ∧ (∀ q j : Nat, pJ q j → ¬ X q j → K q j = J q j) ∧ K 70 45 = J 70 45 ∧ (∀ j : Nat, ¬ X 96 j → K 96 j = J 96 j) ∧ ∀ j : Nat, K 91 j = J 91 j
theorem eqX.rf {X : Nat → Nat → Prop} {J : xI_T} (h : Wall J) : eqX X J J := ⟨h, fun _ _ _ _ => rfl, rfl, fun _ _ => rfl, fun _ => rfl⟩
theorem eqX.unl {X : Nat → Nat → Prop} {K J : xI_T} {M : xL_T} {s : Int32} (h : eqX X K J) : eqX X (m_unl K M s).2 J := by
  rw [unl_2]
  exact ⟨h.1.pursB, fun q j z y => (pursB_pj h.1 q j z).trans (h.2.1 q j z y), pursB_45.trans h.2.2.1, fun j y => (pursB_o (gz3_q (Or.inl rfl)) (by decide)).trans (h.2.2.2.1 j y), fun j => (pursB_o (gz3_q (Or.inr (Or.inr (Or.inl rfl)))) (by decide)).trans (h.2.2.2.2 j)⟩
theorem eqX.up {X : Nat → Nat → Prop} {K J : xI_T} {a b : Nat} {v : Int32} (h : eqX X K J) (hX : X a b) (hW : Wall (up2 K a b v)) (h1 : ¬ (a = 70 ∧ b = 45)) (h2 : a ≠ 91) : eqX X (up2 K a b v) J := by
  have e : ∀ q j : Nat, ¬ X q j → up2 K a b v q j = K q j := fun q j y => up2_n _ _ fun z => y (by rw [z.1, z.2]; exact hX)
  exact ⟨hW, fun q j z y => (e q j y).trans (h.2.1 q j z y), (up2_n _ _ fun z => h1 ⟨z.1.symm, z.2.symm⟩).trans h.2.2.1, fun j y => (e 96 j y).trans (h.2.2.2.1 j y), fun j => (up2_i _ _ (Ne.symm h2)).trans (h.2.2.2.2 j)⟩
theorem RC_third {A J2 J3 : xI_T} {v : Int32} (h : RC A J2 34) (hb : ix (J2 70 0) ≤ 8) (h1 : ∀ q j : Nat, ¬ (q = 70 ∧ j = 2) → J3 q j = J2 q j) (h2 : J3 70 2 = v) : RC (up2 A 34 7 v) J3 34 := by
  obtain ⟨a, ⟨b1, b2⟩, c, d, e, f⟩ := h
  have o : ∀ q j : Nat, ¬ (q = 34 ∧ j = 7) → up2 A 34 7 v q j = A q j := fun q j y => up2_n _ _ y
  refine ⟨fun k hk => ?_, ⟨?_, fun k hk => ?_⟩, ?_, ?_, ?_, ?_⟩
  · rw [h1 70 0 (by decide)] at hk
    rw [o _ _ (by omega), o _ _ (by omega), o _ _ (by omega), h1 _ _ (by omega), h1 _ _ (by omega), h1 _ _ (by omega)]
    exact a k hk
  · rw [o _ _ (by omega), h1 _ _ (by omega)]; exact b1
  · rw [h1 _ _ (by omega)] at hk
    rw [o _ _ (by omega), o _ _ (by omega), h1 _ _ (by omega), h1 _ _ (by omega), h1 _ _ (by decide)]
    exact b2 k hk
  · rw [o _ _ (by omega), h1 _ _ (by omega)]; exact c
  · rw [up2_s, h2]
  · rw [o _ _ (by omega), h1 _ _ (by omega)]; exact e
  · rw [o _ _ (by omega), h1 _ _ (by omega)]; exact f
theorem RC_want {A J2 J3 : xI_T} {o9 : Nat} {v : Int32} (h : RC A J2 34) (h1 : ∀ q j : Nat, ¬ (q = 71 ∧ j = o9) → J3 q j = J2 q j) (h2 : J3 71 o9 = v) : RC (up2 A 36 o9 v) J3 34 := by
  obtain ⟨a, ⟨b1, b2⟩, c, d, e, f⟩ := h
  have o : ∀ q j : Nat, q ≠ 36 → up2 A 36 o9 v q j = A q j := fun q j y => up2_i _ _ y
  refine ⟨fun k hk => ⟨?_, ?_, ?_⟩, ⟨?_, fun k hk => ?_⟩, ?_, ?_, ?_, ?_⟩
  · rw [h1 70 0 (by omega)] at hk
    rw [o _ _ (by omega), h1 _ _ (by omega)]; exact (a k hk).1
  · rw [h1 70 0 (by omega)] at hk
    by_cases q : k = o9
    · subst q
      rw [up2_s, h2]
    · rw [up2_k _ _ q, h1 _ _ (by omega)]; exact (a k hk).2.1
  · rw [h1 70 0 (by omega)] at hk
    rw [o _ _ (by omega), h1 _ _ (by omega)]; exact (a k hk).2.2
  · rw [o _ _ (by omega), h1 _ _ (by omega)]; exact b1
  · rw [h1 _ _ (by omega)] at hk
    rw [o _ _ (by omega), o _ _ (by omega), h1 _ _ (by omega), h1 _ _ (by omega), h1 _ _ (by omega)]
    exact b2 k hk
  · rw [o _ _ (by omega), h1 _ _ (by omega)]; exact c
  · rw [o _ _ (by omega), h1 _ _ (by omega)]; exact d
  · rw [o _ _ (by omega), h1 _ _ (by omega)]; exact e
  · rw [o _ _ (by omega), h1 _ _ (by omega)]; exact f
/-- the reference's state ahead of the k-th try -/
abbrev thK (M : xL_T) (s : Int32) (J : xI_T) (k : Nat) : xI_T := up2 (m_thGo M s k (0, J)).2 70 2 (nI (k + 1))
abbrev whK (M : xL_T) (s : Int32) (p : Nat) (J : xI_T) (k : Nat) : xI_T := up2 (m_whGo M s p k (0, J)).2 96 p (nI k)
abbrev waK (M : xL_T) (s : Int32) (o : Nat) (J : xI_T) (k : Nat) : xI_T := up2 (m_waGo M s o k ((0, -2), J)).2 71 o (nI (9 - k))
def X3 (q j : Nat) : Prop := q = 70 ∧ j = 2
def XR (p q j : Nat) : Prop := q = 96 ∧ j = p
def XA (o q j : Nat) : Prop := q = 71 ∧ j = o
theorem Wall.ways {I : xI_T} {o : Nat} {v : Int32} (h : Wall I) : Wall (up2 I 71 o v) := by
  refine ⟨h.1.mv ?_ ?_ fun j _ _ => ?_, h.2.1.mv ?_ fun q j h1 h2 => ?_, h.2.2.mv ?_ fun j => ?_⟩
  all_goals exact up2_i _ _ (by omega)
theorem th_X {M : xL_T} {s : Int32} {J : xI_T} (h : Wall J) : ∀ k : Nat, k ≤ 5 → eqX X3 (m_thGo M s k (0, J)).2 J ∧ (k < 5 → eqX X3 (thK M s J k) J)
  | 0, _ => ⟨eqX.rf h, fun _ => (eqX.rf h).up ⟨rfl, rfl⟩ (h.third (by omega) (by omega)) (by decide) (by decide)⟩
  | k + 1, hk => by
    have a := (th_X (M := M) (s := s) h k (by omega)).2 (by omega)
    have b : eqX X3 (m_thGo M s (k + 1) (0, J)).2 J := a.unl (M := M) (s := s)
    exact ⟨b, fun hk5 => b.up ⟨rfl, rfl⟩ (b.1.third (by omega) (by omega)) (by decide) (by decide)⟩
theorem wh_X {M : xL_T} {s : Int32} {p : Nat} {J : xI_T} (h : Wall J) : ∀ k : Nat, k ≤ 8 → eqX (XR p) (m_whGo M s p k (0, J)).2 J ∧ (k < 8 → eqX (XR p) (whK M s p J k) J)
  | 0, _ => ⟨eqX.rf h, fun _ => (eqX.rf h).up ⟨rfl, rfl⟩ (h.place (vp_in_nI (by omega) (by decide))) (by omega) (by decide)⟩
  | k + 1, hk => by
    have a := (wh_X (M := M) (s := s) (p := p) h k (by omega)).2 (by omega)
    have b : eqX (XR p) (m_whGo M s p (k + 1) (0, J)).2 J := a.unl (M := M) (s := s)
    exact ⟨b, fun hk5 => b.up ⟨rfl, rfl⟩ (b.1.place (vp_in_nI (by omega) (by decide))) (by omega) (by decide)⟩
theorem wa_X {M : xL_T} {s : Int32} {o : Nat} {J : xI_T} (h : Wall J) : ∀ k : Nat, eqX (XA o) (m_waGo M s o k ((0, -2), J)).2 J ∧ eqX (XA o) (waK M s o J k) J
  | 0 => ⟨eqX.rf h, (eqX.rf h).up ⟨rfl, rfl⟩ h.ways (by omega) (by decide)⟩
  | k + 1 => by
    have a := (wa_X (M := M) (s := s) (o := o) h k).2
    have b : eqX (XA o) (m_waGo M s o (k + 1) ((0, -2), J)).2 J := a.unl (M := M) (s := s)
    exact ⟨b, b.up ⟨rfl, rfl⟩ b.1.ways (by omega) (by decide)⟩
theorem begins_pj {K : xI_T} {q j : Nat} (h : pJ q j) : m_begins K q j = K q j := by
  unfold pJ at h
  exact begins_o (by omega) (by omega) (by omega)
/-- what holds for the tries, out of what the queries stand on -/
theorem UN.third {n : Nat} {Ty : Nat → xs_T} {I A B : xI_T} {F : xF_T} {J K : xI_T} {M : xL_T} {s z zs : Nat} {v : Int32} (hQ : QS n Ty A F J) (hR : RW A J z) (h45 : J 70 45 = nI z) (hS : RS A J M s zs) (hK : eqX X3 K J) (hv : K 70 2 = v) (h1 : ∀ J2 : xI_T, eqL J J2 → RC B J2 34) (h2 : Fr lset A B) : UN n Ty (up2 B 34 7 v) F K M s z zs := by
  have p : ∀ q j : Nat, pJ q j → ¬ (q = 70 ∧ j = 2) → m_begins K q j = J q j := fun q j a b => (begins_pj a).trans (hK.2.1 q j a b)
  have fB : ∀ q j : Nat, ¬ lset q j → up2 B 34 7 v q j = A q j := fun q j y => by rw [up2_n _ _ (by unfold lset at y; omega)]; exact h2 q j y
  have b43 : m_begins K 70 43 = 0 := by unfold m_begins; rw [fil2_ap, if_neg (by decide), up2_s]
  have k0 : K 70 0 = J 70 0 := hK.2.1 70 0 (Or.inl ⟨rfl, by decide⟩) (fun y => absurd y.2 (by decide))
  obtain ⟨nb, hnb, enb, enx, -⟩ := hQ.nb
  refine ⟨⟨hQ.2.1.mv4 (fun q k y => fB q k (by unfold lset; omega)) (fB 0 1 (by unfold lset; omega)) (fB 0 3 (by unfold lset; omega)) (p _ _ (by unfold pJ; omega) (by decide)) (p _ _ (by unfold pJ; omega) (by decide)) (p _ _ (by unfold pJ; omega) (by decide)) (p _ _ (by unfold pJ; omega) (by decide)) (fun k _ => p _ _ (by unfold pJ; omega) (by omega)) (fun q k a b => p _ _ (by unfold pJ; omega) (by omega)), ?_⟩, ⟨hK.1, hR.fr ⟨fB 0 19 (by unfold lset; omega), fun k => fB 22 k (by unfold lset; omega)⟩ ⟨k0, fun k => hK.2.2.2.1 k (fun y => absurd y.1 (by decide))⟩, hK.2.2.1.trans h45⟩, hS.mv (fB 0 23 (by unfold lset; omega)) (fun k => fB 24 k (by unfold lset; omega)) (hK.2.2.2.2 s)⟩
  refine RC_third (J2 := up2 (m_begins K) 70 2 (J 70 2)) (h1 _ ⟨⟨?_, up2_s _ _ _ _, ?_⟩, fun k _ => ?_, fun k hk => ?_⟩) ?_ (fun q j y => (up2_n _ _ y).symm) ((begins_pj (by unfold pJ; omega)).trans hv)
  · rw [up2_k _ _ (by decide)]; exact p _ _ (by unfold pJ; omega) (by decide)
  · rw [up2_k _ _ (by decide)]; exact b43
  · rw [up2_i _ _ (by decide)]; exact p _ _ (by unfold pJ; omega) (by omega)
  · rw [up2_i _ _ (by decide)]; exact p _ _ (by unfold pJ; omega) (by omega)
  · rw [up2_k _ _ (by decide), p _ _ (by unfold pJ; omega) (by decide), enx]; omega
theorem UN.row {n : Nat} {Ty : Nat → xs_T} {A B : xI_T} {F : xF_T} {J K : xI_T} {M : xL_T} {s z zs p9 : Nat} (hQ : QS n Ty A F J) (hR : RW A K z) (h45 : J 70 45 = nI z) (hS : RS A J M s zs) (hK : eqX (XR p9) K J) (h1 : ∀ J2 : xI_T, eqL J J2 → RC B J2 34) (h2 : Fr lset A B) : UN n Ty B F K M s z zs := by
  have p : ∀ q j : Nat, pJ q j → m_begins K q j = J q j := fun q j a => (begins_pj a).trans (hK.2.1 q j a (fun y => by unfold pJ at a; unfold XR at y; omega))
  have b43 : m_begins K 70 43 = 0 := by unfold m_begins; rw [fil2_ap, if_neg (by decide), up2_s]
  refine ⟨⟨hQ.2.1.mv4 (fun q k y => h2 q k (by unfold lset; omega)) (h2 0 1 (by unfold lset; omega)) (h2 0 3 (by unfold lset; omega)) (p _ _ (by unfold pJ; omega)) (p _ _ (by unfold pJ; omega)) (p _ _ (by unfold pJ; omega)) (p _ _ (by unfold pJ; omega)) (fun k _ => p _ _ (by unfold pJ; omega)) (fun q k a b => p _ _ (by unfold pJ; omega)), ?_⟩, ⟨hK.1, hR.fr ⟨h2 0 19 (by unfold lset; omega), fun k => h2 22 k (by unfold lset; omega)⟩ ⟨rfl, fun k => rfl⟩, hK.2.2.1.trans h45⟩, hS.mv (h2 0 23 (by unfold lset; omega)) (fun k => h2 24 k (by unfold lset; omega)) (hK.2.2.2.2 s)⟩
  exact h1 _ ⟨⟨p _ _ (by unfold pJ; omega), p _ _ (by unfold pJ; omega), b43⟩, fun k _ => p _ _ (by unfold pJ; omega), fun k hk => p _ _ (by unfold pJ; omega)⟩
theorem UN.want {n : Nat} {Ty : Nat → xs_T} {A B : xI_T} {F : xF_T} {J K : xI_T} {M : xL_T} {s z zs o : Nat} {v : Int32} (hQ : QS n Ty A F J) (hR : RW A J z) (h45 : J 70 45 = nI z) (hS : RS A J M s zs) (ho : o < 8) (hK : eqX (XA o) K J) (hv : K 71 o = v) (h1 : ∀ J2 : xI_T, eqL J J2 → RC B J2 34) (h2 : Fr lset A B) : UN n Ty (up2 B 36 o v) F K M s z zs := by
  have p : ∀ q j : Nat, pJ q j → ¬ (q = 71 ∧ j = o) → m_begins K q j = J q j := fun q j a b => (begins_pj a).trans (hK.2.1 q j a b)
  have fB : ∀ q j : Nat, ¬ lset q j → up2 B 36 o v q j = A q j := fun q j y => by rw [up2_n _ _ (by unfold lset at y; omega)]; exact h2 q j y
  have b43 : m_begins K 70 43 = 0 := by unfold m_begins; rw [fil2_ap, if_neg (by decide), up2_s]
  have k0 : K 70 0 = J 70 0 := hK.2.1 70 0 (Or.inl ⟨rfl, by decide⟩) (fun y => absurd y.1 (by decide))
  refine ⟨⟨hQ.2.1.mv4 (fun q k y => fB q k (by unfold lset; omega)) (fB 0 1 (by unfold lset; omega)) (fB 0 3 (by unfold lset; omega)) (p _ _ (by unfold pJ; omega) (by omega)) (p _ _ (by unfold pJ; omega) (by omega)) (p _ _ (by unfold pJ; omega) (by omega)) (p _ _ (by unfold pJ; omega) (by omega)) (fun k _ => p _ _ (by unfold pJ; omega) (by omega)) (fun q k a b => p _ _ (by unfold pJ; omega) (by omega)), ?_⟩, ⟨hK.1, hR.fr ⟨fB 0 19 (by unfold lset; omega), fun k => fB 22 k (by unfold lset; omega)⟩ ⟨k0, fun k => hK.2.2.2.1 k (fun y => absurd y.1 (by decide))⟩, hK.2.2.1.trans h45⟩, hS.mv (fB 0 23 (by unfold lset; omega)) (fun k => fB 24 k (by unfold lset; omega)) (hK.2.2.2.2 s)⟩
  refine RC_want (J2 := up2 (m_begins K) 71 o (J 71 o)) (h1 _ ⟨⟨?_, ?_, ?_⟩, fun k _ => ?_, fun k hk => ?_⟩) (fun q j y => (up2_n _ _ y).symm) ((begins_pj (by unfold pJ; omega)).trans hv)
  · rw [up2_i _ _ (by decide)]; exact p _ _ (by unfold pJ; omega) (by omega)
  · rw [up2_i _ _ (by decide)]; exact p _ _ (by unfold pJ; omega) (by omega)
  · rw [up2_i _ _ (by decide)]; exact b43
  · by_cases q : k = o
    · subst q
      exact up2_s _ _ _ _
    · rw [up2_k _ _ q]; exact p _ _ (by unfold pJ; omega) (by omega)
  · rw [up2_i _ _ (by decide)]; exact p _ _ (by unfold pJ; omega) (by omega)
theorem UN.base {n : Nat} {Ty : Nat → xs_T} {A B : xI_T} {F : xF_T} {J : xI_T} {M : xL_T} {s z zs : Nat} (hQ : QS n Ty A F J) (hR : RW A J z) (h45 : J 70 45 = nI z) (hS : RS A J M s zs) (h1 : ∀ J2 : xI_T, eqL J J2 → RC B J2 34) (h2 : Fr lset A B) : UN n Ty B F J M s z zs :=
  UN.row (p9 := 0) hQ hR h45 hS (eqX.rf (hQ.wall hR h45)) h1 h2
theorem lset_2 {q k : Nat} (h : lset q k) : q2set q k := bset_2 (Or.inl h)
theorem cset_2 {q k : Nat} (h : cset 34 q k) : q2set q k := bset_2 (Or.inr h)
abbrev sset (q k : Nat) : Prop := q = 24 ∨ (q = 0 ∧ k = 23)
theorem sset_2 {q k : Nat} (h : sset q k) : q2set q k := by
  unfold q2set qset
  unfold sset at h
  omega
theorem shK.gm {n n' : Nat} {Ty Ty' : Nat → xs_T} {I I' : xI_T} {L : xL_T} {F : xF_T} {J : xI_T} {M : xL_T} {s : Nat} (h : shK n Ty I L F J M s) (h1 : n ≤ n') (h2 : ∀ i : Nat, i < n → Ty' i = Ty i) (h3 : ∀ q k : Nat, 103 ≤ q → q < n → I' q k = I q k) : shK n' Ty' I' L F J M s := by
  rcases h with h | ⟨q, t, a, z, ⟨a1, a2, a3, a4, a5⟩, a6, ⟨b1, b2, b3, b4, b5, b6⟩, b7⟩ | ⟨q, b, c, ⟨a1, a2, a3, a4, a5, a6⟩, a7, a8⟩
  · exact Or.inl h
  · refine Or.inr (Or.inl ⟨q, t, a, z, ⟨a1, a2, by omega, a4, (h2 q a3).trans a5⟩, a6, ⟨b1, b2, by omega, b4, b5, (h2 a b3).trans b6⟩, fun i hi => ?_⟩)
    rw [h3 a i b2 b3]
    exact b7 i hi
  · exact Or.inr (Or.inr ⟨q, b, c, ⟨a1, a2, a3, by omega, a5, (h2 q a4).trans a6⟩, a7, a8⟩)
theorem areS_n {ss : Int32} (h : ¬ m_areS ss = 0) : ∃ a b : Nat, a < 6 ∧ b < 6 ∧ ss / 10 = nI a ∧ irm ss 10 = nI b := by
  obtain ⟨h1, h2⟩ := areS_in h
  obtain ⟨a, ha, ea⟩ := vp_in_of h1 (by decide)
  obtain ⟨b, hb, eb⟩ := vp_in_of h2 (by decide)
  exact ⟨a, b, ha, hb, ea, eb⟩
theorem noR_1 {J : xI_T} {ss : Int32} {a b : Nat} (ea : ss / 10 = nI a) (eb : irm ss 10 = nI b) : m_noR J ss = if m_noB J (nI a) < 0 then m_noB J (nI a) else m_noB J (nI b) := by
  unfold m_noR
  rw [ea, eb]
theorem thGo_s {M : xL_T} {s : Int32} {J : xI_T} {k : Nat} : (m_thGo M s (k + 1) (0, J)).1 = m_bit (m_unl (thK M s J k) M s).1 (nI (k + 1)) (m_thGo M s k (0, J)).1 := rfl
theorem whGo_s {M : xL_T} {s : Int32} {p : Nat} {J : xI_T} {k : Nat} : (m_whGo M s p (k + 1) (0, J)).1 = m_bit (m_unl (whK M s p J k) M s).1 (nI k) (m_whGo M s p k (0, J)).1 := rfl
theorem waGo_s {M : xL_T} {s : Int32} {o : Nat} {J : xI_T} {k : Nat} : (m_waGo M s o (k + 1) ((0, -2), J)).1 = if (m_unl (waK M s o J k) M s).1 = -2 then ((m_waGo M s o k ((0, -2), J)).1.1 + 1, nI (9 - k)) else (m_waGo M s o k ((0, -2), J)).1 := rfl
def asc (T : Nat → Int32) : Nat → Nat
  | 0 => 0
  | k + 1 => asc T k + if T k = -2 then 1 else 0
theorem asc_le {T : Nat → Int32} : ∀ k : Nat, asc T k ≤ k
  | 0 => Nat.le_refl _
  | k + 1 => by
    have := asc_le (T := T) k
    unfold asc
    split <;> omega
abbrev waV (M : xL_T) (s : Int32) (o : Nat) (J : xI_T) (v : Nat) : Int32 := (m_unl (waK M s o J (9 - v)) M s).1
theorem wat_1 {M : xL_T} {s : Int32} {o : Nat} {J : xI_T} : ∀ k : Nat, k ≤ 10 → ∃ c : Nat, (m_waGo M s o k ((0, -2), J)).1.1 = nI c ∧ asc (waV M s o J) (10 - k) + c = asc (waV M s o J) 10
  | 0, _ => ⟨0, rfl, by rw [Nat.sub_zero, Nat.add_zero]⟩
  | k + 1, hk => by
    obtain ⟨c, e, h⟩ := wat_1 (M := M) (s := s) (o := o) (J := J) k (by omega)
    have e1 : asc (waV M s o J) (10 - k) = asc (waV M s o J) (10 - (k + 1)) + if waV M s o J (10 - (k + 1)) = -2 then 1 else 0 := by
      rw [show 10 - k = (10 - (k + 1)) + 1 by omega]
      rfl
    have e2 : waV M s o J (10 - (k + 1)) = (m_unl (waK M s o J k) M s).1 := by
      unfold waV
      rw [show 9 - (10 - (k + 1)) = k by omega]
    rw [e2] at e1
    rw [waGo_s]
    by_cases q : (m_unl (waK M s o J k) M s).1 = -2
    · rw [if_pos q] at e1 ⊢
      exact ⟨c + 1, by rw [e]; exact nI_1 c, by omega⟩
    · rw [if_neg q] at e1 ⊢
      exact ⟨c, e, by omega⟩
theorem wat_2 {M : xL_T} {s : Int32} {o : Nat} {J : xI_T} : ∀ k : Nat, k ≤ 10 → ((m_waGo M s o k ((0, -2), J)).1.2 = -2 ∧ ∀ v : Nat, 10 - k ≤ v → v < 10 → ¬ waV M s o J v = -2) ∨ ∃ v : Nat, 10 - k ≤ v ∧ v < 10 ∧ waV M s o J v = -2 ∧ (m_waGo M s o k ((0, -2), J)).1.2 = nI v ∧ ∀ u : Nat, 10 - k ≤ u → u < v → ¬ waV M s o J u = -2
  | 0, _ => Or.inl ⟨rfl, fun v h1 h2 => absurd h1 (by omega)⟩
  | k + 1, hk => by
    have e2 : waV M s o J (10 - (k + 1)) = (m_unl (waK M s o J k) M s).1 := by
      unfold waV
      rw [show 9 - (10 - (k + 1)) = k by omega]
    rw [waGo_s]
    by_cases q : (m_unl (waK M s o J k) M s).1 = -2
    · rw [if_pos q]
      refine Or.inr ⟨10 - (k + 1), Nat.le_refl _, by omega, e2.trans q, ?_, fun u h1 h2 => absurd h2 (by omega)⟩
      show nI (9 - k) = _
      rw [show 9 - k = 10 - (k + 1) by omega]
    · rw [if_neg q]
      rcases wat_2 (M := M) (s := s) (o := o) (J := J) k (by omega) with ⟨a, b⟩ | ⟨v, a, b, c, d, e⟩
      · refine Or.inl ⟨a, fun v h1 h2 => ?_⟩
        by_cases z : v = 10 - (k + 1)
        · rw [z, e2]; exact q
        · exact b v (by omega) h2
      · refine Or.inr ⟨v, by omega, b, c, d, fun u h1 h2 => ?_⟩
        by_cases z : u = 10 - (k + 1)
        · rw [z, e2]; exact q
        · exact e u (by omega) h2
theorem fit_1 {w : Int32} (h : ¬ inR w 0 3 = 0) (h0 : ¬ w = 0) (h1 : w ≤ 1) : w = 1 := by
  obtain ⟨t, ht, e⟩ := vp_in_of (xinR (N := 4) h (by decide)) (by decide)
  rw [e] at h0 h1 ⊢
  have q0 : t ≠ 0 := fun z => h0 (by rw [z]; rfl)
  have q1 : t ≤ 1 := (nI_leI (a := t) (b := 1) (by omega) (by decide)).mp h1
  rw [show t = 1 by omega]
  rfl
theorem thirds_1 {J : xI_T} {M : xL_T} {s : Int32} : (m_thirds J M s).1 = (m_thGo M s 5 (0, J)).1 := by
  unfold m_thirds
  generalize m_thGo M s 5 (0, J) = z
  rfl
theorem whose_1 {J : xI_T} {M : xL_T} {s : Int32} {p : Nat} : (m_whose J M s p).1 = (m_whGo M s p (ix (J 70 0)) (0, J)).1 := by
  unfold m_whose
  generalize m_whGo M s p (ix (J 70 0)) (0, J) = z
  rfl
theorem wanted_0 {J : xI_T} {M : xL_T} {s b : Int32} {o : Nat} (h : b = 0) : (m_wanted J M s o b).1 = (m_waGo M s o 10 ((0, -2), J)).1.1 := by
  unfold m_wanted
  generalize m_waGo M s o 10 ((0, -2), J) = z
  exact if_pos h
theorem wanted_1 {J : xI_T} {M : xL_T} {s b : Int32} {o : Nat} (h : ¬ b = 0) : (m_wanted J M s o b).1 = (m_waGo M s o 10 ((0, -2), J)).1.2 := by
  unfold m_wanted
  generalize m_waGo M s o 10 ((0, -2), J) = z
  exact if_neg h
theorem whK_p {J : xI_T} {M : xL_T} {s : Int32} {p k : Nat} : whK M s p J k 96 p = nI k := up2_s _ _ _ _
theorem waK_o {J : xI_T} {M : xL_T} {s : Int32} {o k : Nat} (h : k ≤ 9) : waK M s o J (9 - k) 71 o = nI k := by
  show up2 _ 71 o _ 71 o = _
  rw [up2_s, show 9 - (9 - k) = k by omega]
theorem asc_s {T : Nat → Int32} {k : Nat} : asc T (k + 1) = asc T k + if T k = -2 then 1 else 0 := rfl
theorem wat_3 {J : xI_T} {M : xL_T} {s : Int32} {o c : Nat} (h : asc (waV M s o J) (10 - 10) + c = asc (waV M s o J) 10) : asc (waV M s o J) 10 = c := by
  rw [Nat.sub_self] at h
  rw [← h]
  exact Nat.zero_add c
