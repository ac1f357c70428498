/-! THE TWO SIDES: what ties the component's numbers (I) to the reference's (J) -/
/-- codes of the law: a list's run on a stack (its top first) -/
def ev1 (nm : Nat → Int32) (c : Int32) (s : List Int32) : List Int32 :=
  if 18 ≤ c then (c - 18) :: s else if 5 < c then
    (if c = 16 then (match s with | x :: t => (if x = 0 then 1 else 0) :: t | [] => []) else if c = 17 then (match s with | x :: t => (-x) :: t | [] => []) else (match s with | y :: x :: t => m_both c x y :: t | _ => []))
  else nm (ix c) :: s
def evs (nm : Nat → Int32) : List Int32 → List Int32 → List Int32
  | [], s => s
  | c :: r, s => evs nm r (ev1 nm c s)
theorem evs_app (nm : Nat → Int32) : ∀ (a b s : List Int32), evs nm (a ++ b) s = evs nm b (evs nm a s)
  | [], _, _ => rfl
  | c :: r, b, s => evs_app nm r b (ev1 nm c s)
/-- a sign's code -/
def sgc (x : Int32) : Int32 := if x = 43 then 11 else if x = 45 then 12 else if x = 42 then 13 else if x = 47 then 14 else if x = 37 then 15 else if x = 60 then 8 else if x = 61 then 9 else if x = 62 then 10 else if x = 38 then 7 else 6
/-- a letter's code -/
def ltc (x : Int32) : Int32 := if x = 119 then 0 else if x = 112 then 1 else if x = 104 then 2 else if x = 110 then 3 else if x = 111 then 4 else 5
def okl (x : Int32) : Prop := x = 119 ∨ x = 112 ∨ x = 104 ∨ x = 110 ∨ x = 111 ∨ x = 100
def oks (x : Int32) : Prop := x = 43 ∨ x = 45 ∨ x = 42 ∨ x = 47 ∨ x = 37 ∨ x = 60 ∨ x = 61 ∨ x = 62 ∨ x = 38 ∨ x = 124
/-- the tree at q holds the codes c -/
def nodeIs (n : Nat) (Ty : Nat → xs_T) (I : xI_T) (F : xF_T) : Nat → Nat → List Int32 → Prop
  | 0, _, _ => False
  | d + 1, q, c => 103 ≤ q ∧ q < n ∧ (
    (Ty q = some (.inl 12) ∧ ∃ v : Nat, v ≤ 9999 ∧ I q 0 = nI v ∧ c = [nI (18 + v)]) ∨
    (Ty q = some (.inl 9) ∧ okl (I q 0) ∧ c = [ltc (I q 0)]) ∨
    (Ty q = some (.inl 10) ∧ ∃ (r : Nat) (e : List Int32), F q 0 = some r ∧ nodeIs n Ty I F d r e ∧ c = e ++ [16]) ∨
    (Ty q = some (.inl 11) ∧ ∃ (r : Nat) (e : List Int32), F q 0 = some r ∧ nodeIs n Ty I F d r e ∧ c = e ++ [17]) ∨
    (Ty q = some (.inl 13) ∧ oks (I q 0) ∧ ∃ (r1 r2 : Nat) (e1 e2 : List Int32), F q 1 = some r1 ∧ F q 2 = some r2 ∧ nodeIs n Ty I F d r1 e1 ∧ nodeIs n Ty I F d r2 e2 ∧ c = e1 ++ (e2 ++ [sgc (I q 0)])))
/-- codes a .. b of the reference -/
def cds (J : xI_T) (a b : Nat) : List Int32 := (List.range (b - a)).map (fun k => J 77 (a + k))
def linesIs (n : Nat) (Ty : Nat → xs_T) (I : xI_T) (F : xF_T) (J : xI_T) : Nat → Nat → Option Nat → Prop
  | 0, _, o => o = none
  | m + 1, i, o => ∃ q : Nat, o = some q ∧ 103 ≤ q ∧ q < n ∧ Ty q = some (.inl 7) ∧
    ((J 75 i ≤ J 74 i ∧ F q 0 = none) ∨ (¬ J 75 i ≤ J 74 i ∧ ∃ r : Nat, F q 0 = some r ∧ nodeIs n Ty I F 200 r (cds J (ix (J 74 i)) (ix (J 75 i))))) ∧
    (∃ r : Nat, F q 1 = some r ∧ nodeIs n Ty I F 200 r (cds J (ix (J 75 i)) (ix (J 76 i)))) ∧ linesIs n Ty I F J m (i + 1) (F q 2)
def KL (n : Nat) (Ty : Nat → xs_T) (I : xI_T) (F : xF_T) (J : xI_T) : Prop := (J 70 7 = 0 ∧ F 0 10 = none) ∨ (¬ J 70 7 = 0 ∧ ¬ F 0 10 = none ∧ linesIs n Ty I F J (ix (J 70 8)) 0 (F 0 10))
/-- buyers' objects, what is the same for all -/
def KB (n : Nat) (Ty : Nat → xs_T) (I : xI_T) (F : xF_T) (J : xI_T) : Prop := I 0 1 = J 70 0 ∧ (I 0 3 = J 70 3 ∧ (J 70 3 = 0 ∨ J 70 3 = 1)) ∧ ∀ b : Nat, b < ix (J 70 0) → ∃ q : Nat, F 1 b = some q ∧ (103 ≤ q ∧ q < n) ∧ Ty q = some (.inl 4) ∧ I q 2 = J 71 (8 + b) ∧ I q 3 = J 71 (16 + b) ∧ (J 71 (16 + b) = 0 ∨ J 71 (16 + b) = 1)
def KS (n : Nat) (Ty : Nat → xs_T) (I : xI_T) (F : xF_T) (J : xI_T) : Prop := KB n Ty I F J ∧ KL n Ty I F J
/-- a market of the component (its cells from g on) and the reference's -/
def RC (I J : xI_T) (g : Nat) : Prop := (∀ k : Nat, k < ix (J 70 0) → I (g + 1) k = J 72 k ∧ I (g + 2) k = J 71 k ∧ I (g + 3) k = J 72 (10 + k)) ∧ (I g 5 = J 72 18 ∧ ∀ k : Nat, k < ix (J 72 18) → I (g + 4) k = J 72 (19 + k) ∧ I (g + 5) k = J 72 (25 + k) ∧ ∃ w : Nat, w < ix (J 70 0) ∧ J 72 (19 + k) = nI w) ∧ I g 6 = J 72 9 ∧ I g 7 = J 70 2 ∧ I g 8 = J 72 8 ∧ I g 9 = J 70 43
/-- the latest coming; who paid whom -/
def RQ (I J : xI_T) : Prop := I 0 15 = J 70 40 ∧ I 0 16 = J 70 41 ∧ I 0 17 = J 70 42
def RP (I J : xI_T) : Prop := ∀ a b : Nat, a < 8 → b < 8 → I (14 + a) b = J 95 (8 * a + b)
/-- what a coming may write -/
def cset (g q k : Nat) : Prop := (q = 0 ∧ 15 ≤ k ∧ k ≤ 17) ∨ q = 5 ∨ (14 ≤ q ∧ q ≤ 21) ∨ q = g ∨ q = g + 1 ∨ q = g + 3 ∨ q = g + 4 ∨ q = g + 5
def Fr (S : Nat → Nat → Prop) (I I' : xI_T) : Prop := ∀ q k : Nat, ¬ S q k → I' q k = I q k
theorem Fr.rf {S : Nat → Nat → Prop} {I : xI_T} : Fr S I I := fun _ _ _ => rfl
theorem Fr.tr {S : Nat → Nat → Prop} {I J K : xI_T} (h : Fr S I J) (g : Fr S J K) : Fr S I K := fun q k z => (g q k z).trans (h q k z)
theorem Fr.up {S : Nat → Nat → Prop} {I J : xI_T} {a b : Nat} {v : Int32} (h : Fr S I J) (hs : S a b) : Fr S I (up2 J a b v) := fun q k z => by
  rw [up2_n _ _ (fun e => z (by rw [e.1, e.2]; exact hs))]
  exact h q k z
theorem Fr.sub {S S' : Nat → Nat → Prop} {I J : xI_T} (h : Fr S I J) (hs : ∀ q k : Nat, S q k → S' q k) : Fr S' I J := fun q k z => h q k (fun e => z (hs q k e))
theorem nodeIs.mv {n : Nat} {Ty : Nat → xs_T} {I I' : xI_T} {F : xF_T} (h1 : ∀ q k : Nat, 103 ≤ q → I' q k = I q k) : ∀ (d q : Nat) (c : List Int32), nodeIs n Ty I F d q c → nodeIs n Ty I' F d q c
  | 0, _, _, h => h
  | d + 1, q, c, h => by
    obtain ⟨hq, hn, h⟩ := h
    refine ⟨hq, hn, ?_⟩
    rw [h1 q 0 hq]
    rcases h with h | h | ⟨a, r, e, b, b2, b3⟩ | ⟨a, r, e, b, b2, b3⟩ | ⟨a, a2, r1, r2, e1, e2, b1, b2, b3, b4, b5⟩
    · exact Or.inl h
    · exact Or.inr (Or.inl h)
    · exact Or.inr (Or.inr (Or.inl ⟨a, r, e, b, nodeIs.mv h1 d r e b2, b3⟩))
    · exact Or.inr (Or.inr (Or.inr (Or.inl ⟨a, r, e, b, nodeIs.mv h1 d r e b2, b3⟩)))
    · exact Or.inr (Or.inr (Or.inr (Or.inr ⟨a, a2, r1, r2, e1, e2, b1, b2, nodeIs.mv h1 d r1 e1 b3, nodeIs.mv h1 d r2 e2 b4, b5⟩)))
theorem cds_mv {J J' : xI_T} (h : ∀ k : Nat, J' 77 k = J 77 k) (a b : Nat) : cds J' a b = cds J a b := by
  unfold cds
  simp only [h]
theorem linesIs.mv {n : Nat} {Ty : Nat → xs_T} {I I' : xI_T} {F : xF_T} {J J' : xI_T} (h1 : ∀ q k : Nat, 103 ≤ q → I' q k = I q k) (h2 : ∀ q k : Nat, 74 ≤ q → q ≤ 77 → J' q k = J q k) : ∀ (m i : Nat) (o : Option Nat), linesIs n Ty I F J m i o → linesIs n Ty I' F J' m i o
  | 0, _, _, h => h
  | m + 1, i, o, h => by
    obtain ⟨q, ho, hq, hn, hT, ht, ⟨r, hr, hg⟩, hx⟩ := h
    refine ⟨q, ho, hq, hn, hT, ?_, ⟨r, hr, ?_⟩, linesIs.mv h1 h2 m (i + 1) _ hx⟩
    · rw [h2 75 i (by decide) (by decide), h2 74 i (by decide) (by decide), cds_mv (fun k => h2 77 k (by decide) (by decide))]
      rcases ht with ht | ⟨a, r, b, c⟩
      · exact Or.inl ht
      · exact Or.inr ⟨a, r, b, c.mv h1 _ _ _⟩
    · rw [h2 75 i (by decide) (by decide), h2 76 i (by decide) (by decide), cds_mv (fun k => h2 77 k (by decide) (by decide))]
      exact hg.mv h1 _ _ _
theorem KL.mv {n : Nat} {Ty : Nat → xs_T} {I I' : xI_T} {F : xF_T} {J J' : xI_T} (h : KL n Ty I F J) (h1 : ∀ q k : Nat, 103 ≤ q → I' q k = I q k) (h2 : ∀ q k : Nat, 74 ≤ q → q ≤ 77 → J' q k = J q k) (h7 : J' 70 7 = J 70 7) (h8 : J' 70 8 = J 70 8) : KL n Ty I' F J' := by
  unfold KL
  rw [h7, h8]
  rcases h with h | ⟨a, b, c⟩
  · exact Or.inl h
  · exact Or.inr ⟨a, b, c.mv h1 h2 _ _ _⟩
theorem KB.mv {n : Nat} {Ty : Nat → xs_T} {I I' : xI_T} {F : xF_T} {J J' : xI_T} (h : KB n Ty I F J) (h1 : ∀ q k : Nat, 103 ≤ q → I' q k = I q k) (h01 : I' 0 1 = I 0 1) (h03 : I' 0 3 = I 0 3) (h0 : J' 70 0 = J 70 0) (h3 : J' 70 3 = J 70 3) (h71 : ∀ k : Nat, 8 ≤ k → J' 71 k = J 71 k) : KB n Ty I' F J' := by
  obtain ⟨a, b, c⟩ := h
  refine ⟨by rw [h01, h0]; exact a, by rw [h03, h3]; exact b, fun k hk => ?_⟩
  obtain ⟨q, q1, q2, q3, q4, q5, q6⟩ := c k (by rw [← h0]; exact hk)
  exact ⟨q, q1, q2, q3, by rw [h1 q 2 q2.1, h71 _ (by omega)]; exact q4, by rw [h1 q 3 q2.1, h71 _ (by omega)]; exact q5, by rw [h71 _ (by omega)]; exact q6⟩
theorem KS.mv {n : Nat} {Ty : Nat → xs_T} {I I' : xI_T} {F : xF_T} {J J' : xI_T} (h : KS n Ty I F J) (h1 : ∀ q k : Nat, 103 ≤ q → I' q k = I q k) (h01 : I' 0 1 = I 0 1) (h03 : I' 0 3 = I 0 3) (hJ : ∀ q k : Nat, gz q k → J' q k = J q k) : KS n Ty I' F J' := by
  have g70 : ∀ j : Nat, j < 40 → J' 70 j = J 70 j := fun j hj => hJ 70 j ⟨by decide, by decide, by decide, by decide, fun _ => Or.inl hj⟩
  exact ⟨h.1.mv h1 h01 h03 (g70 0 (by decide)) (g70 3 (by decide)) fun k _ => hJ 71 k (gz_q ⟨by decide, by decide, by decide, by decide, by decide⟩), h.2.mv h1 (fun q k a b => hJ q k (gz_q ⟨by omega, by omega, by omega, by omega, by omega⟩)) (g70 7 (by decide)) (g70 8 (by decide))⟩
theorem KS.fr {n : Nat} {Ty : Nat → xs_T} {I I' : xI_T} {F : xF_T} {J J' : xI_T} {g : Nat} (h : KS n Ty I F J) (hf : Fr (cset g) I I') (hg : 0 < g ∧ g + 5 < 70) (hJ : ∀ q k : Nat, gz q k → J' q k = J q k) : KS n Ty I' F J' :=
  h.mv (fun q k hq => hf q k (by unfold cset; omega)) (hf 0 1 (by unfold cset; omega)) (hf 0 3 (by unfold cset; omega)) hJ
/-- a market stands where neither side's cells of it are written -/
theorem RC.mv {I I' J J' : xI_T} {g : Nat} (h : RC I J g) (hI : ∀ q k : Nat, g ≤ q → q ≤ g + 5 → I' q k = I q k) (h0 : J' 70 0 = J 70 0) (h2 : J' 70 2 = J 70 2) (h43 : J' 70 43 = J 70 43) (h71 : ∀ k : Nat, k < 8 → J' 71 k = J 71 k) (h72 : ∀ k : Nat, J' 72 k = J 72 k) (hb : ix (J 70 0) ≤ 8) : RC I' J' g := by
  obtain ⟨a, ⟨b1, b2⟩, c, d, e, f⟩ := h
  refine ⟨fun k hk => ?_, ⟨?_, fun k hk => ?_⟩, ?_, ?_, ?_, ?_⟩
  · rw [h0] at hk
    rw [hI _ _ (by omega) (by omega), hI _ _ (by omega) (by omega), hI _ _ (by omega) (by omega), h72, h71 k (by omega), h72]
    exact a k hk
  · rw [hI _ _ (by omega) (by omega), h72]
    exact b1
  · rw [h72] at hk
    rw [hI _ _ (by omega) (by omega), hI _ _ (by omega) (by omega), h72, h72, h0]
    exact b2 k hk
  · rw [hI _ _ (by omega) (by omega), h72]; exact c
  · rw [hI _ _ (by omega) (by omega), h2]; exact d
  · rw [hI _ _ (by omega) (by omega), h72]; exact e
  · rw [hI _ _ (by omega) (by omega), h43]; exact f
