/-! PURE ROWS for the reference's walks -/
theorem xin8 {x : Int32} (h : vp_in x 9) (h8 : ¬ x = 8) : vp_in x 8 := by
  rw [vp_in_iff] at h ⊢
  rw [i_eq, show (8 : Int32).toInt = 8 from rfl] at h8
  omega
theorem xinR {x : Int32} {N : Nat} {hi : Int32} (h : ¬ inR x 0 hi = 0) (hN : hi.toInt + 1 ≤ N) : vp_in x N := by
  obtain ⟨h1, h2⟩ := inR_n.mp h
  rw [i_lt, show (0 : Int32).toInt = 0 from rfl] at h1
  rw [i_lt] at h2
  rw [vp_in_iff]
  omega
theorem isB_in {I : xI_T} {b : Int32} (hb : vp_in (I 70 0) 9) (h : ¬ m_isB I b = 0) : vp_in b 8 := by
  obtain ⟨h1, h2⟩ := inR_n.mp h
  rw [vp_in_iff] at hb ⊢
  rw [i_lt, show (0 : Int32).toInt = 0 from rfl] at h1
  rw [i_lt, i_sub (by rw [show (1 : Int32).toInt = 1 from rfl]; omega) (by rw [show (1 : Int32).toInt = 1 from rfl]; omega), show (1 : Int32).toInt = 1 from rfl] at h2
  omega
/-- which cell a change may be of -/
def okw (w b : Int32) : Prop := w = 4 ∨ w = 5 ∨ w = 6 ∨ ((w = 0 ∨ w = 1 ∨ w = 2 ∨ w = 3) ∧ vp_in b 8)
theorem okw_0 {w b : Int32} (h : okw w b) (h0 : w = 0) : vp_in b 8 := by
  subst h0
  rcases h with h | h | h | h
  · exact absurd h (by decide)
  · exact absurd h (by decide)
  · exact absurd h (by decide)
  · exact h.2
theorem okw_i {w b : Int32} (h : okw w b) (h0 : ¬ w = 0) (h4 : ¬ w = 4) (h5 : ¬ w = 5) (h6 : ¬ w = 6) : vp_in (8 * w - 8 + b) 24 := by
  rcases h with h | h | h | ⟨h, hb⟩
  · exact absurd h h4
  · exact absurd h h5
  · exact absurd h h6
  · rcases h with h | h | h | h
    · exact absurd h h0
    · subst h
      exact xin_c 0 rfl hb (by decide) (by decide)
    · subst h
      exact xin_c 8 rfl hb (by decide) (by decide)
    · subst h
      exact xin_c 16 rfl hb (by decide) (by decide)
theorem inR_03 {w : Int32} (h : ¬ inR w 0 3 = 0) : w = 0 ∨ w = 1 ∨ w = 2 ∨ w = 3 := by
  have h1 := xinR (N := 4) h (by decide)
  obtain ⟨j, hj, rfl⟩ := vp_in_of h1 (by decide)
  match j, hj with
  | 0, _ => exact Or.inl rfl
  | 1, _ => exact Or.inr (Or.inl rfl)
  | 2, _ => exact Or.inr (Or.inr (Or.inl rfl))
  | 3, _ => exact Or.inr (Or.inr (Or.inr rfl))
  | j + 4, hj => exact absurd hj (by omega)
theorem inR_46 {w : Int32} (h : ¬ inR w 4 6 = 0) : w = 4 ∨ w = 5 ∨ w = 6 := by
  obtain ⟨h1, h2⟩ := inR_n.mp h
  rw [i_lt, show (4 : Int32).toInt = 4 from rfl] at h1
  rw [i_lt, show (6 : Int32).toInt = 6 from rfl] at h2
  have h3 : w.toInt = 4 ∨ w.toInt = 5 ∨ w.toInt = 6 := by omega
  rcases h3 with h3 | h3 | h3
  · exact Or.inl (i_eq.mpr h3)
  · exact Or.inr (Or.inl (i_eq.mpr h3))
  · exact Or.inr (Or.inr (i_eq.mpr h3))
theorem isOf_ok {I : xI_T} {b w : Int32} (hb : vp_in (I 70 0) 9) (h : ¬ m_isOf I b w = 0) : okw w b := by
  unfold m_isOf at h
  split at h
  · rename_i h3
    exact Or.inr (Or.inr (Or.inr ⟨inR_03 h3, isB_in hb h⟩))
  · split at h
    · exact absurd rfl h
    · rename_i h4
      rcases inR_46 h4 with h5 | h5 | h5
      · exact Or.inl h5
      · exact Or.inr (Or.inl h5)
      · exact Or.inr (Or.inr (Or.inl h5))
theorem bec_k {I : xI_T} {b w v : Int32} {k : Nat} (h2 : k ≠ 2) (h3 : k ≠ 3) : m_bec I b w v 70 k = I 70 k := by
  unfold m_bec
  repeat' split
  all_goals simp [up2_ap, h2, h3]
theorem bec_i {I : xI_T} {b w v : Int32} {q k : Nat} (h0 : q ≠ 70) (h1 : q ≠ 71) (h2 : q ≠ 72) : m_bec I b w v q k = I q k := by
  unfold m_bec
  repeat' split
  all_goals simp [up2_ap, h0, h1, h2]
theorem cpy2_up {I : xI_T} {a o b p c : Nat} (h : a ≠ b ∨ o ≤ p) : up2 (cpy2 I a o b p c) a (o + c) (cpy2 I a o b p c b (p + c)) = cpy2 I a o b p (c + 1) := by
  funext q j
  have e : cpy2 I a o b p c b (p + c) = I b (p + c) := by
    rw [cpy2_ap, if_neg]
    rintro ⟨h1, h2, h3⟩
    rcases h with h | h
    · exact h h1.symm
    · omega
  rw [up2_ap, e, cpy2_ap, cpy2_ap]
  by_cases h1 : q = a
  · by_cases h2 : j = o + c
    · subst h2
      rw [if_pos ⟨h1, rfl⟩, if_pos ⟨h1, by omega, by omega⟩]
      congr 1
      omega
    · rw [if_neg (fun z => h2 z.2)]
      by_cases h3 : o ≤ j ∧ j < o + c
      · rw [if_pos ⟨h1, h3⟩, if_pos ⟨h1, h3.1, by omega⟩]
      · rw [if_neg (fun z => h3 z.2), if_neg (fun z => h3 ⟨z.2.1, by omega⟩)]
  · rw [if_neg (fun z => h1 z.1), if_neg (fun z => h1 z.1), if_neg (fun z => h1 z.1)]
theorem cpy2_z {I : xI_T} {a o b p : Nat} : cpy2 I a o b p 0 = I := by
  funext q j
  rw [cpy2_ap, if_neg]
  omega
theorem fil2_z {I : xI_T} {a o : Nat} {v : Int32} : fil2 I a o o v = I := by
  funext q j
  rw [fil2_ap, if_neg]
  omega
theorem fil2_up {I : xI_T} {a o c : Nat} {v : Int32} (h : o ≤ c) : up2 (fil2 I a o c v) a c v = fil2 I a o (c + 1) v := by
  funext q j
  rw [up2_ap, fil2_ap, fil2_ap]
  by_cases h1 : q = a
  · by_cases h2 : j = c
    · subst h2
      rw [if_pos ⟨h1, rfl⟩, if_pos ⟨h1, h, by omega⟩]
    · rw [if_neg (fun z => h2 z.2)]
      by_cases h3 : o ≤ j ∧ j < c
      · rw [if_pos ⟨h1, h3⟩, if_pos ⟨h1, h3.1, by omega⟩]
      · rw [if_neg (fun z => h3 z.2), if_neg (fun z => h3 ⟨z.2.1, by omega⟩)]
  · rw [if_neg (fun z => h1 z.1), if_neg (fun z => h1 z.1), if_neg (fun z => h1 z.1)]
theorem ix_n {k : Nat} (h : k < 2147483648) : ix (nI k) = k := nI_clamp h
theorem nI_ix {x : Int32} {N : Nat} (h : vp_in x N) (hN : N < 2147483648) : x = nI (ix x) ∧ ix x < N := by
  obtain ⟨j, hj, rfl⟩ := vp_in_of h hN
  rw [ix_n (by omega)]
  exact ⟨rfl, hj⟩
theorem xin_41 {x : Int32} (h : vp_in x 41) (h8 : ¬ x = 40) : vp_in x 40 := by
  rw [vp_in_iff] at h ⊢
  rw [i_eq, show (40 : Int32).toInt = 40 from rfl] at h8
  omega
theorem xin_p {x : Int32} {N : Nat} (h : vp_in x N) (h0 : ¬ x = 0) (hN : N < 1000000) : vp_in (x - 1) (N - 1) := by
  rw [vp_in_iff] at h ⊢
  rw [i_eq, show (0 : Int32).toInt = 0 from rfl] at h0
  rw [i_sub (by rw [show (1 : Int32).toInt = 1 from rfl]; omega) (by rw [show (1 : Int32).toInt = 1 from rfl]; omega), show (1 : Int32).toInt = 1 from rfl]
  omega
theorem xin_4 {d : Int32} (h : vp_in d 40) (k : Nat) (c : Int32) (hc : c.toInt = k) (hk : k < 4) : vp_in (4 * d + c) 160 := xin_d k hc (xin_m (a := 39) (N := 157) 4 rfl h (by decide) (by decide)) (by omega) (by decide)
theorem xin_40 {d : Int32} (h : vp_in d 40) : vp_in (4 * d) 160 := xin_m (a := 39) 4 rfl h (by decide) (by decide)
theorem okc {I : xI_T} (hc : ∀ k : Nat, k < 40 → okw (I 87 (4 * k + 1)) (I 87 (4 * k))) {q : Nat} (hq : q < 40) : okw (I 87 (ix (4 * nI q + 1))) (I 87 (ix (4 * nI q))) := by
  have e : (4 : Int32) * nI q = nI (4 * q) := pk_mul 4 q
  rw [e, nI_1, ix_n (by omega), ix_n (by omega)]
  exact hc q hq
theorem xin_lt {x y : Int32} {N : Nat} (h : vp_in x N) (hy : vp_in y N) (hle : x ≤ y) (hne : ¬ x = y) : vp_in x (N - 1) := by
  rw [vp_in_iff] at h hy ⊢
  rw [i_le] at hle
  rw [i_eq] at hne
  omega
theorem xin_120 {x : Int32} (h : vp_in x 121) (h8 : ¬ x = 120) : vp_in x 120 := by
  rw [vp_in_iff] at h ⊢
  rw [i_eq, show (120 : Int32).toInt = 120 from rfl] at h8
  omega
theorem book_ix {o k w : Int32} (ho : vp_in o 6) (hk : ¬ k < 0) (hw : ¬ inR w 0 1 = 0) (hl : k < o) : vp_in (19 + 6 * w + k) 31 := by
  have h1 := xinR (N := 2) hw (by decide)
  have h2 : vp_in k 5 := by
    rw [vp_in_iff] at ho ⊢
    rw [i_lt, show (0 : Int32).toInt = 0 from rfl] at hk
    rw [i_lt] at hl
    omega
  exact xin_a (xin_c 19 rfl (xin_m (a := 1) (N := 7) 6 rfl h1 (by decide) (by decide)) (N := 26) (by decide) (by decide)) h2 (by decide) (by decide)
/-- the reference's market is in bounds -/
def Wmk (I : xI_T) : Prop := vp_in (I 70 0) 9 ∧ vp_in (I 70 2) 6 ∧ ¬ I 70 2 = 0 ∧ vp_in (I 72 18) 6 ∧ ∀ k : Nat, 19 ≤ k → k < 25 → vp_in (I 72 k) 8
/-- heights of the law's codes -/
def cdep (I : xI_T) (f : Nat) : Nat → Nat
  | 0 => 0
  | k + 1 => if 18 ≤ I 77 (f + k) then cdep I f k + 1 else if 5 < I 77 (f + k) then (if I 77 (f + k) = 16 then cdep I f k else if I 77 (f + k) = 17 then cdep I f k else cdep I f k - 1) else cdep I f k + 1
def cok (I : xI_T) (f z : Nat) : Prop := ∀ k : Nat, k < z → ¬ I 77 (f + k) < 0 ∧ ((I 77 (f + k) = 16 ∨ I 77 (f + k) = 17) → 1 ≤ cdep I f k) ∧ ((¬ 18 ≤ I 77 (f + k) ∧ 5 < I 77 (f + k) ∧ ¬ I 77 (f + k) = 16 ∧ ¬ I 77 (f + k) = 17) → 2 ≤ cdep I f k)
def Wlaw (I : xI_T) : Prop := vp_in (I 70 8) 61 ∧ ∀ i : Nat, nI i < I 70 8 → i < 60 → ∃ a s e : Nat, I 74 i = nI a ∧ I 75 i = nI s ∧ I 76 i = nI e ∧ a ≤ s ∧ s ≤ e ∧ e ≤ 200 ∧ cok I a (s - a) ∧ cok I s (e - s)
theorem mstep_o {I : xI_T} {c : Int32} {t q j : Nat} (h : q ≠ 82) : (m_step I c t).1 q j = I q j := by
  unfold m_step
  repeat' split
  all_goals simp [up2_ap, h]
theorem mrun_o {I : xI_T} {f : Nat} (k : Nat) {t q j : Nat} (h : q ≠ 82) : (m_run f k (I, t)).1 q j = I q j := by
  induction k with
  | zero => rfl
  | succ k ih =>
    show (m_step _ _ _).1 q j = _
    rw [mstep_o h, ih]
theorem mrun_d {I : xI_T} {f : Nat} (k : Nat) : (m_run f k (I, 0)).2 = cdep I f k := by
  induction k with
  | zero => rfl
  | succ k ih =>
    show (m_step _ _ _).2 = _
    unfold cdep
    rw [mrun_o k (by decide), ih]
    unfold m_step
    by_cases h1 : 18 ≤ I 77 (f + k)
    · simp [h1]
    · by_cases h2 : 5 < I 77 (f + k)
      · by_cases h3 : I 77 (f + k) = 16
        · simp [h3]
        · by_cases h4 : I 77 (f + k) = 17
          · simp [h4]
          · simp [h1, h2, h3, h4]
      · simp [h1, h2]
theorem cdep_le {I : xI_T} {f : Nat} (k : Nat) : cdep I f k ≤ k := by
  induction k with
  | zero => exact Nat.le_refl _
  | succ k ih =>
    unfold cdep
    repeat' split
    all_goals omega
theorem mwork_o {I : xI_T} {f g q j : Nat} (h : q ≠ 82) : m_work I f g q j = I q j := mrun_o _ h
theorem mshift_z {I : xI_T} : m_shift I 0 = I := by
  funext q j
  unfold m_shift
  rw [if_neg (by omega), if_neg (by omega)]
theorem mshift_up {I : xI_T} {k : Nat} (hk : k < 5) : up2 (up2 (m_shift I k) 72 (19 + k) (m_shift I k 72 (20 + k))) 72 (25 + k) (up2 (m_shift I k) 72 (19 + k) (m_shift I k 72 (20 + k)) 72 (26 + k)) = m_shift I (k + 1) := by
  have e1 : m_shift I k 72 (20 + k) = I 72 (20 + k) := by
    unfold m_shift
    rw [if_neg (by omega), if_neg (by omega)]
  have e2 : up2 (m_shift I k) 72 (19 + k) (m_shift I k 72 (20 + k)) 72 (26 + k) = I 72 (26 + k) := by
    rw [up2_ap, if_neg (by omega)]
    unfold m_shift
    rw [if_neg (by omega), if_neg (by omega)]
  rw [e2, e1]
  funext q j
  rw [up2_ap, up2_ap]
  unfold m_shift
  by_cases h1 : q = 72
  · subst h1
    by_cases h2 : j = 25 + k
    · subst h2
      rw [if_pos ⟨rfl, rfl⟩, if_neg (by omega), if_pos (by omega)]
      congr 1
      omega
    · rw [if_neg (by omega)]
      by_cases h3 : j = 19 + k
      · subst h3
        rw [if_pos ⟨rfl, rfl⟩, if_pos (by omega)]
        congr 1
        omega
      · rw [if_neg (by omega)]
        by_cases h4 : 19 ≤ j ∧ j < 19 + k
        · rw [if_pos ⟨rfl, h4⟩, if_pos (by omega)]
        · by_cases h5 : 25 ≤ j ∧ j < 25 + k
          · rw [if_neg (by omega), if_pos ⟨rfl, h5⟩, if_neg (by omega), if_pos (by omega)]
          · rw [if_neg (by omega), if_neg (by omega), if_neg (by omega), if_neg (by omega)]
  · rw [if_neg (by omega), if_neg (by omega), if_neg (by omega), if_neg (by omega), if_neg (by omega), if_neg (by omega)]
theorem mshift_o {I : xI_T} {k q j : Nat} (h : q ≠ 72 ∨ j < 19 ∨ 30 < j) (hk : k ≤ 5) : m_shift I k q j = I q j := by
  unfold m_shift
  rw [if_neg (by omega), if_neg (by omega)]
theorem xin_88 {w c : Int32} (hw : vp_in w 8) (hc : vp_in c 8) : vp_in (8 * w + c) 64 := xin_a (xin_m (a := 7) (N := 57) 8 rfl hw (by decide) (by decide)) hc (by decide) (by decide)
/-- less may be known of the locals -/
def xsub : List (Option Value) → List (Option Value) → Prop
  | [], [] => True
  | [], _ :: _ => False
  | _ :: _, [] => False
  | none :: r, _ :: r' => xsub r r'
  | some v :: r, b :: r' => b = some v ∧ xsub r r'
theorem xsub_at : ∀ (a b : List (Option Value)) (i : Nat) (v : Value), xsub a b → a[i]? = some (some v) → b[i]? = some (some v)
  | [], _, i, v, _, h => by simp at h
  | x :: r, [], i, v, hs, _ => by cases x <;> exact hs.elim
  | none :: r, y :: r', i, v, hs, h => by
    match i, h with
    | 0, h => cases h
    | i + 1, h => exact xsub_at r r' i v hs (by simpa using h)
  | some x :: r, y :: r', i, v, hs, h => by
    match i, h with
    | 0, h =>
      cases h
      exact congrArg some hs.1
    | i + 1, h => exact xsub_at r r' i v hs.2 (by simpa using h)
theorem x_wk {Θ : xT_T} {ce sl n : Nat} {Ty : Nat → xs_T} {I : xI_T} {L : xL_T} {F : xF_T} {pc : Nat} {lv lv' : List (Option Value)} {st : List Value} (hx : X Θ ce sl n Ty I L F pc lv st) (h : xsub lv lv') : X Θ ce sl n Ty I L F pc lv' st := by
  obtain ⟨⟨p, l, e, R, s, m, args, below, meth, c, Qx⟩, G, own, nL, mc, ms, post⟩ := Θ
  intro H locs ls hw hS hl
  exact hx H locs ls hw hS ⟨hl.1, hl.2.1, fun i v hv => hl.2.2 i v (xsub_at lv lv' i v h hv)⟩
theorem jmax_of {x y : Int32} : (if x < y then y else x) = jmax x y := by
  unfold jmax
  by_cases h : x < y
  · rw [if_pos h, if_neg (Int32.not_le.mpr h)]
  · rw [if_neg h, if_pos (Int32.not_lt.mp h)]
theorem jmin_of {x y : Int32} : (if y < x then y else x) = jmin x y := by
  unfold jmin
  by_cases h : y < x
  · rw [if_pos h, if_neg (Int32.not_le.mpr h)]
  · rw [if_neg h, if_pos (Int32.not_lt.mp h)]
theorem cMax_lib : prog_39_method_65_code = Lib.Math.max.code := by decide +kernel
theorem cMin_lib : prog_39_method_69_code = Lib.Math.min.code := by decide +kernel
theorem x_mmax {Θ : xT_T} {l : Launch} {cls : String} {cc : ByteArray} {nL k mc ms : Nat} {ret : Option FieldType} {nm : String} {G : xG_T} {own : Nat → Prop} {post : xP_T} {ce sl n : Nat} {Ty : Nat → xs_T} {I : xI_T} {L : xL_T} {F : xF_T} {pc : Nat} {lv : List (Option Value)} {st : List Value} (h : XOk Θ l cls cc nL k mc ms ret nm G own post) {idx : Nat} {x y : Int32} (q : Cond.methodLink cls idx yJ9_max ∈ lw_all) (hk : 1 ≤ k) (hce : ce ≤ mc ∧ sl ≤ ms) (hrest : (st.map fun v => v.category).sum ≤ 8) (d : decode cc pc = .ok (.invokestatic idx, 3)) (kk : X Θ ce sl n Ty I L F (pc + 3) lv (.int (jmax x y) :: st)) : X Θ ce sl n Ty I L F pc lv (.int y :: .int x :: st) := by
  obtain ⟨⟨p, l9, e, R, s, m, args, below, meth, c, Qx⟩, G9, own9, nL9, mc9, ms9, post9⟩ := Θ
  obtain ⟨⟨rfl, rfl, rfl, rfl, rfl, rfl, rfl⟩, hx, hb, hml, hown, hts, hKK, hK, hr, hlk, rfl, hnm, hsz, hmq⟩ := h
  intro H locs ls hw hS hl
  refine va_mmax hx hb (hml.trans hl.1.symm) hown (hts _ q) (hts _ q500) (hts _ q116) (by have z := hts _ q501; rw [← cMax_lib]; exact z) hk (by show _ + 13 ≤ 64 * k; omega) hce.1 hce.2 d ?_
  rw [jmax_of]
  exact kk H locs ls hw hS hl
theorem x_mmin {Θ : xT_T} {l : Launch} {cls : String} {cc : ByteArray} {nL k mc ms : Nat} {ret : Option FieldType} {nm : String} {G : xG_T} {own : Nat → Prop} {post : xP_T} {ce sl n : Nat} {Ty : Nat → xs_T} {I : xI_T} {L : xL_T} {F : xF_T} {pc : Nat} {lv : List (Option Value)} {st : List Value} (h : XOk Θ l cls cc nL k mc ms ret nm G own post) {idx : Nat} {x y : Int32} (q : Cond.methodLink cls idx yJ9_min ∈ lw_all) (hk : 1 ≤ k) (hce : ce ≤ mc ∧ sl ≤ ms) (hrest : (st.map fun v => v.category).sum ≤ 8) (d : decode cc pc = .ok (.invokestatic idx, 3)) (kk : X Θ ce sl n Ty I L F (pc + 3) lv (.int (jmin x y) :: st)) : X Θ ce sl n Ty I L F pc lv (.int y :: .int x :: st) := by
  obtain ⟨⟨p, l9, e, R, s, m, args, below, meth, c, Qx⟩, G9, own9, nL9, mc9, ms9, post9⟩ := Θ
  obtain ⟨⟨rfl, rfl, rfl, rfl, rfl, rfl, rfl⟩, hx, hb, hml, hown, hts, hKK, hK, hr, hlk, rfl, hnm, hsz, hmq⟩ := h
  intro H locs ls hw hS hl
  refine va_mmin hx hb (hml.trans hl.1.symm) hown (hts _ q) (hts _ q503) (hts _ q116) (by have z := hts _ q504; rw [← cMin_lib]; exact z) hk (by show _ + 13 ≤ 64 * k; omega) hce.1 hce.2 d ?_
  rw [jmin_of]
  exact kk H locs ls hw hS hl
theorem nI_m1 {t : Nat} (h : 1 ≤ t) : nI t - 1 = nI (t - 1) := by
  obtain ⟨s, rfl⟩ : ∃ s : Nat, t = s + 1 := ⟨t - 1, by omega⟩
  exact nI_pred s
theorem nI_d1 {t : Nat} (h : 1 ≤ t) : nI t + -1 = nI (t - 1) := by
  rw [← nI_m1 h, Int32.sub_eq_add_neg]
theorem nI_m2 {t : Nat} (h : 2 ≤ t) : nI (t - 1) - 1 = nI (t - 2) := nI_m1 (t := t - 1) (by omega)
theorem xin_6 {c : Int32} (h0 : ¬ c < 0) (h5 : ¬ 5 < c) : vp_in c 6 := by
  rw [vp_in_iff]
  rw [i_lt, show (0 : Int32).toInt = 0 from rfl] at h0
  rw [i_lt, show (5 : Int32).toInt = 5 from rfl] at h5
  omega
theorem hlt75 {I : xI_T} {i : Nat} (h : Wlaw I) (c : ¬ I 70 8 ≤ nI i) (hi : i ≤ 60) : i < 60 := by
  have h1 := h.1
  rw [vp_in_iff] at h1
  rw [i_le, nI_toInt (by omega)] at c
  omega
theorem byGo_0 {d i : Nat} {I : xI_T} (c : I 70 8 ≤ nI i) : m_byGo (d + 1) i I = (0, I) := by
  unfold m_byGo
  rw [if_pos c]
theorem byGo_1 {d i : Nat} {I : xI_T} (c : ¬ I 70 8 ≤ nI i) (c2 : I 75 i ≤ I 74 i) : m_byGo (d + 1) i I = (m_work I (ix (I 75 i)) (ix (I 76 i)) 82 0, m_work I (ix (I 75 i)) (ix (I 76 i))) := by
  unfold m_byGo
  rw [if_neg c, if_pos c2]
theorem byGo_2 {d i : Nat} {I J : xI_T} (c : ¬ I 70 8 ≤ nI i) (c2 : ¬ I 75 i ≤ I 74 i) (e : J = m_work I (ix (I 74 i)) (ix (I 75 i))) (h : J 82 0 = 0) : m_byGo (d + 1) i I = m_byGo d (i + 1) J := by
  subst e
  rw [m_byGo, if_neg c, if_neg c2]
  exact if_pos h
theorem byGo_3 {d i : Nat} {I J : xI_T} (c : ¬ I 70 8 ≤ nI i) (c2 : ¬ I 75 i ≤ I 74 i) (e : J = m_work I (ix (I 74 i)) (ix (I 75 i))) (h : ¬ J 82 0 = 0) : m_byGo (d + 1) i I = (m_work J (ix (J 75 i)) (ix (J 76 i)) 82 0, m_work J (ix (J 75 i)) (ix (J 76 i))) := by
  subst e
  rw [m_byGo, if_neg c, if_neg c2]
  exact if_neg h
theorem cdep_mv {I J : xI_T} (h : ∀ j, J 77 j = I 77 j) (f k : Nat) : cdep J f k = cdep I f k := by
  induction k with
  | zero => rfl
  | succ k ih =>
    unfold cdep
    rw [ih, h]
theorem cok_mv {I J : xI_T} (h : ∀ j, J 77 j = I 77 j) {f z : Nat} (hk : cok I f z) : cok J f z := by
  intro k hz
  rw [h, cdep_mv h]
  exact hk k hz
theorem Wlaw.mv {I J : xI_T} (h : Wlaw I) (h8 : J 70 8 = I 70 8) (hs : ∀ q j : Nat, 74 ≤ q → q ≤ 77 → J q j = I q j) : Wlaw J := by
  refine ⟨by rw [h8]; exact h.1, fun i hi h60 => ?_⟩
  obtain ⟨a, s, e, h1, h2, h3, h4, h5, h6, h7, h9⟩ := h.2 i (by rw [← h8]; exact hi) h60
  exact ⟨a, s, e, by rw [hs 74 i (by decide) (by decide)]; exact h1, by rw [hs 75 i (by decide) (by decide)]; exact h2, by rw [hs 76 i (by decide) (by decide)]; exact h3, h4, h5, h6, cok_mv (fun j => hs 77 j (by decide) (by decide)) h7, cok_mv (fun j => hs 77 j (by decide) (by decide)) h9⟩
theorem Wlaw.up {I : xI_T} (h : Wlaw I) {q k : Nat} {v : Int32} (hd : (Nat.ble 74 q && Nat.ble q 77) = false) (h70 : q = 70 → k ≠ 8) : Wlaw (up2 I q k v) := by
  have h9 : ¬ (74 ≤ q ∧ q ≤ 77) := fun z => by
    rw [Nat.ble_eq_true_of_le z.1, Nat.ble_eq_true_of_le z.2] at hd
    cases hd
  refine h.mv ?_ fun a j h1 h2 => ?_
  · exact up2_n I v (fun z => h70 z.1.symm z.2.symm)
  · exact up2_n I v (fun z => h9 (by omega))
theorem Wlaw.work {I : xI_T} (h : Wlaw I) {f g : Nat} : Wlaw (m_work I f g) := h.mv (mwork_o (by decide)) fun q j h1 h2 => mwork_o (by omega)
theorem Wlaw.asks {J : xI_T} (h : Wlaw J) {i : Nat} (c : ¬ J 70 8 ≤ nI i) (hi : i < 60) : vp_in (J 74 i) 201 ∧ vp_in (J 75 i) 201 ∧ ix (J 74 i) ≤ ix (J 75 i) ∧ cok J (ix (J 74 i)) (ix (J 75 i) - ix (J 74 i)) ∧ ∀ K : xI_T, (∀ q j : Nat, q ≠ 82 → K q j = J q j) → vp_in (K 75 i) 201 ∧ vp_in (K 76 i) 201 ∧ ix (K 75 i) ≤ ix (K 76 i) ∧ cok K (ix (K 75 i)) (ix (K 76 i) - ix (K 75 i)) := by
  obtain ⟨a, s, z, ea, es, ez, has, hsz, hz2, k1, k2⟩ := h.2 i (Int32.not_le.mp c) hi
  have e1 : ix (J 74 i) = a := by rw [ea]; exact ix_n (by omega)
  have e2 : ix (J 75 i) = s := by rw [es]; exact ix_n (by omega)
  have e3 : ix (J 76 i) = z := by rw [ez]; exact ix_n (by omega)
  refine ⟨by rw [ea]; exact vp_in_nI (by omega) (by decide), by rw [es]; exact vp_in_nI (by omega) (by decide), by rw [e1, e2]; exact has, by rw [e1, e2]; exact k1, fun K hK => ?_⟩
  rw [hK 75 i (by decide), hK 76 i (by decide), e2, e3]
  exact ⟨by rw [es]; exact vp_in_nI (by omega) (by decide), by rw [ez]; exact vp_in_nI (by omega) (by decide), hsz, cok_mv (fun j => hK 77 j (by decide)) k2⟩
theorem buys_0 {I : xI_T} {c p : Int32} (h : up2 I 83 1 p 70 7 = 0) : m_buys I c p = (jmax 0 (jmin 99 (5 * up2 I 83 1 p 71 (ix c) + up2 I 83 1 p 71 (ix (8 + c)) - 2 * up2 I 83 1 p 72 (ix (10 + c)))), up2 I 83 1 p) := by
  simp only [m_buys, if_pos h]
theorem buys_1 {I : xI_T} {c p : Int32} (h : ¬ up2 I 83 1 p 70 7 = 0) : m_buys I c p = (jmax 0 (jmin 99 (m_byLaw (up2 I 83 1 p) c).1), (m_byLaw (up2 I 83 1 p) c).2) := by
  simp only [m_buys, if_neg h]
