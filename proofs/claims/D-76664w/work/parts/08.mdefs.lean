/-! MIRRORS OF THE REFERENCE, first half: what its methods compute, in plain Lean, on I (ints) and L (longs) -/
abbrev ix (x : Int32) : Nat := x.toNatClampNeg
def inR (v lo hi : Int32) : Int32 := if v < lo then 0 else if hi < v then 0 else 1
def jmax (x y : Int32) : Int32 := if y ≤ x then x else y
def jmin (x y : Int32) : Int32 := if x ≤ y then x else y
def cpy2 (I : xI_T) (a o b p c : Nat) : xI_T := fun q j => if q = a ∧ o ≤ j ∧ j < o + c then I b (p + (j - o)) else I q j
def fil2 (I : xI_T) (a lo hi : Nat) (v : Int32) : xI_T := fun q j => if q = a ∧ lo ≤ j ∧ j < hi then v else I q j
theorem up2_ap {α : Type} (f : Nat → Nat → α) (i k : Nat) (v : α) (a j : Nat) : up2 f i k v a j = if a = i ∧ j = k then v else f a j := rfl
theorem cpy2_ap (I : xI_T) (a o b p c q j : Nat) : cpy2 I a o b p c q j = if q = a ∧ o ≤ j ∧ j < o + c then I b (p + (j - o)) else I q j := rfl
theorem fil2_ap (I : xI_T) (a lo hi : Nat) (v : Int32) (q j : Nat) : fil2 I a lo hi v q j = if q = a ∧ lo ≤ j ∧ j < hi then v else I q j := rfl
theorem inR_0 {v lo hi : Int32} : inR v lo hi = 0 ↔ (v < lo ∨ hi < v) := by
  unfold inR
  by_cases h1 : v < lo
  · simp [h1]
  · by_cases h2 : hi < v
    · simp [h1, h2]
    · simp [h1, h2]
theorem inR_1 {v lo hi : Int32} : inR v lo hi = 1 ↔ (¬ v < lo ∧ ¬ hi < v) := by
  unfold inR
  by_cases h1 : v < lo
  · simp [h1]
  · by_cases h2 : hi < v
    · simp [h1, h2]
    · simp [h1, h2]
theorem inR_n {v lo hi : Int32} : ¬ inR v lo hi = 0 ↔ (¬ v < lo ∧ ¬ hi < v) := by
  rw [inR_0]
  exact not_or
theorem xk {i : Int32} {n : Nat} (h : (decide (0 ≤ i.toInt) && decide (i.toInt < n)) = true) : vp_in i n := by
  rw [vp_in_iff]
  simpa using h
theorem i_add {x y : Int32} (h1 : -2147483648 ≤ x.toInt + y.toInt) (h2 : x.toInt + y.toInt < 2147483648) : (x + y).toInt = x.toInt + y.toInt := by
  rw [Int32.toInt_add]
  exact Int.bmod_eq_of_le (by omega) (by omega)
theorem i_sub {x y : Int32} (h1 : -2147483648 ≤ x.toInt - y.toInt) (h2 : x.toInt - y.toInt < 2147483648) : (x - y).toInt = x.toInt - y.toInt := by
  rw [Int32.toInt_sub]
  exact Int.bmod_eq_of_le (by omega) (by omega)
theorem i_mul {x y : Int32} (h1 : -2147483648 ≤ x.toInt * y.toInt) (h2 : x.toInt * y.toInt < 2147483648) : (x * y).toInt = x.toInt * y.toInt := by
  rw [Int32.toInt_mul]
  exact Int.bmod_eq_of_le (by omega) (by omega)
theorem i_lt {x y : Int32} : x < y ↔ x.toInt < y.toInt := Int32.lt_iff_toInt_lt
theorem i_le {x y : Int32} : x ≤ y ↔ x.toInt ≤ y.toInt := Int32.le_iff_toInt_le
theorem i_eq {x y : Int32} : x = y ↔ x.toInt = y.toInt := Int32.toInt_inj.symm
theorem xin_mono {x : Int32} {a N : Nat} (h : vp_in x a) (hN : a ≤ N) : vp_in x N := by
  rw [vp_in_iff] at h ⊢
  omega
theorem xin_c {x c : Int32} {a N : Nat} (k : Nat) (hc : c.toInt = k) (hx : vp_in x a) (h : a + k ≤ N) (hN : N < 2147483648) : vp_in (c + x) N := by
  rw [vp_in_iff] at hx ⊢
  rw [i_add (by omega) (by omega)]
  omega
theorem xin_d {x c : Int32} {a N : Nat} (k : Nat) (hc : c.toInt = k) (hx : vp_in x a) (h : a + k ≤ N) (hN : N < 2147483648) : vp_in (x + c) N := by
  rw [vp_in_iff] at hx ⊢
  rw [i_add (by omega) (by omega)]
  omega
theorem xin_a {x y : Int32} {a b N : Nat} (hx : vp_in x a) (hy : vp_in y b) (h : a + b ≤ N + 1) (hN : N < 1000000) : vp_in (x + y) N := by
  rw [vp_in_iff] at hx hy ⊢
  rw [i_add (by omega) (by omega)]
  omega
theorem xin_m {x c : Int32} {a N : Nat} (k : Nat) (hc : c.toInt = k) (hx : vp_in x (a + 1)) (h : k * a + 1 ≤ N) (hN : N < 1000000) : vp_in (c * x) N := by
  rw [vp_in_iff] at hx ⊢
  have h3 : x.toInt ≤ a := by omega
  have h4 : (k : Int) * x.toInt ≤ k * a := Int.mul_le_mul_of_nonneg_left h3 (by omega)
  have h5 : 0 ≤ (k : Int) * x.toInt := Int.mul_nonneg (by omega) hx.1
  have h6 : ((k * a : Nat) : Int) = (k : Int) * a := by simp
  have h7 : ((k * a : Nat) : Int) + 1 ≤ N := by omega
  rw [i_mul (by rw [hc]; omega) (by rw [hc]; omega), hc]
  omega
theorem nar01 {x : Int32} (h : x = 0 ∨ x = 1) : narrow .boolean (.int x) = .int x := by
  rcases h with rfl | rfl <;> rfl
theorem inR_01 {v lo hi : Int32} : inR v lo hi = 0 ∨ inR v lo hi = 1 := by
  unfold inR
  split
  · exact Or.inl rfl
  · split
    · exact Or.inl rfl
    · exact Or.inr rfl
theorem nltN {c : Int32} {N k : Nat} (hc : c = nI N) (hN : N < 2147483648) (hk : k < 2147483648) (h : ¬ c ≤ nI k) : k < N := by
  subst hc
  rcases Nat.lt_or_ge k N with q | q
  · exact q
  · exact absurd (nI_le q (by omega)) h
theorem nleN {c : Int32} {N k : Nat} (hc : c = nI N) (hN : N < 2147483648) (hk : k < 2147483648) (h : c ≤ nI k) : N ≤ k := by
  subst hc
  exact (nI_leI (by omega) (by omega)).mp h
theorem mlt {n i : Nat} (hn : 103 ≤ n) (h : Nat.ble (i + 1) 103 = true) : i < n := Nat.lt_of_lt_of_le (Nat.le_of_ble_eq_true h) hn
/-- the reference's cells: the object is 70, its arrays 71 .. 102 -/
def TyM : Nat → xs_T := fun i => match i with
  | 70 => some (.inl 3)
  | 71 => some (.inr (0, 24))
  | 72 => some (.inr (0, 31))
  | 73 => some (.inr (0, 120))
  | 74 => some (.inr (0, 60))
  | 75 => some (.inr (0, 60))
  | 76 => some (.inr (0, 60))
  | 77 => some (.inr (0, 200))
  | 78 => some (.inr (0, 61))
  | 79 => some (.inr (0, 61))
  | 80 => some (.inr (0, 61))
  | 81 => some (.inr (0, 200))
  | 82 => some (.inr (0, 200))
  | 83 => some (.inr (0, 6))
  | 84 => some (.inr (0, 5))
  | 85 => some (.inr (0, 31))
  | 86 => some (.inr (0, 5))
  | 87 => some (.inr (0, 160))
  | 88 => some (.inr (0, 50))
  | 89 => some (.inr (0, 24))
  | 90 => some (.inr (0, 6))
  | 91 => some (.inr (0, 6))
  | 92 => some (.inr (4, 360))
  | 93 => some (.inr (0, 31))
  | 94 => some (.inr (0, 155))
  | 95 => some (.inr (0, 64))
  | 96 => some (.inr (0, 21))
  | 97 => some (.inr (0, 21))
  | 98 => some (.inr (0, 21))
  | 99 => some (.inr (0, 21))
  | 100 => some (.inr (0, 5))
  | 101 => some (.inr (0, 5))
  | 102 => some (.inr (0, 64))
  | _ => none
def FM : xF_T := fun i k => match i with
  | 70 => match k with
    | 1 => some 71
    | 4 => some 72
    | 6 => some 73
    | 9 => some 74
    | 10 => some 75
    | 11 => some 76
    | 12 => some 77
    | 17 => some 78
    | 18 => some 79
    | 19 => some 80
    | 20 => some 81
    | 21 => some 82
    | 22 => some 83
    | 23 => some 84
    | 26 => some 85
    | 27 => some 86
    | 30 => some 87
    | 32 => some 88
    | 34 => some 89
    | 35 => some 90
    | 36 => some 91
    | 37 => some 92
    | 38 => some 93
    | 39 => some 94
    | 44 => some 95
    | 46 => some 96
    | 47 => some 97
    | 48 => some 98
    | 49 => some 99
    | 50 => some 100
    | 51 => some 101
    | 53 => some 102
    | _ => none
  | _ => none
def idM : Nat → Prop := fun i => 70 ≤ i ∧ i < 103
/-- the reference's contract, exact: answer and ints, longs -/
abbrev CM (l : Launch) (k : Nat) (y : MethodName) (cc : ByteArray) (nL : Nat) (ret : Option FieldType) (G : xG_T) (n : Nat) (av : List Value) (I : xI_T) (L : xL_T) (r : Option Value) (I' : xI_T) (L' : xL_T) : Prop := Cg l k 0 0 y cc nL ret G idM av n TyM I L FM (xpE r n TyM I' L' FM)
-- buyers
def m_newBuyer (I : xI_T) (p w q : Int32) : xI_T := up2 (up2 (up2 (up2 I 72 (ix (I 70 0)) p) 71 (ix (I 70 0)) w) 71 (ix (8 + I 70 0)) q) 70 0 (I 70 0 + 1)
def m_isB (I : xI_T) (b : Int32) : Int32 := inR b 0 (I 70 0 - 1)
def m_told (L : xL_T) (s i : Int32) : Int32 := (L 92 (ix (60 * s + i))).toInt32
def m_buyer (I : xI_T) (w q : Int32) : Int32 × xI_T := if inR w 0 9 = 0 then (-1, I) else if inR q 0 9 = 0 then (-1, I) else if I 70 0 = 8 then (-3, I) else (I 70 0, m_newBuyer I 100 w q)
def m_buyGo (L : xL_T) (s i z : Int32) : Nat → Nat → xI_T → Int32 × xI_T
  | 0, k, I => (nI k, I)
  | d + 1, k, I => if z ≤ nI k then (nI k, I) else
    let f : Int64 := i.toInt64 + 3 * (nI k).toInt64
    if f < 0 ∨ (I 91 (ix s)).toInt64 < f + 3 ∨ I 70 0 = 8 then (nI k, I) else
    let p := f.toInt32
    if inR (m_told L s p) 0 999 = 0 ∨ inR (m_told L s (p + 1)) 0 9 = 0 ∨ inR (m_told L s (p + 2)) 0 9 = 0 then (nI k, I) else
    m_buyGo L s i z d (k + 1) (m_newBuyer I (m_told L s p) (m_told L s (p + 1)) (m_told L s (p + 2)))
def m_buyers (I : xI_T) (L : xL_T) (s i z : Int32) : Int32 × xI_T := if inR s 0 5 = 0 then (-1, I) else if inR z 1 8 = 0 then (-1, I) else if I 90 (ix s) = -1 then (0, I) else if ¬ I 90 (ix s) = 1 then (-12, I) else m_buyGo L s i z 9 0 I
-- changes
def m_isOf (I : xI_T) (b w : Int32) : Int32 := if ¬ inR w 0 3 = 0 then m_isB I b else if inR w 4 6 = 0 then 0 else if b = 0 then 1 else 0
def m_fit (w v : Int32) : Int32 := if w = 0 then inR v 0 999 else if w = 1 then inR v 0 9 else if w = 2 then inR v 0 9 else if w = 4 then inR v 1 5 else if w = 6 then inR v 0 99 else inR v 0 1
def m_get (I : xI_T) (b w : Int32) : Int32 := if w = 0 then I 72 (ix b) else if w = 4 then I 70 2 else if w = 5 then I 70 3 else if w = 6 then I 72 8 else I 71 (ix (8 * w - 8 + b))
def m_bec (I : xI_T) (b w v : Int32) : xI_T := if w = 0 then up2 I 72 (ix b) v else if w = 4 then up2 I 70 2 v else if w = 5 then up2 I 70 3 v else if w = 6 then up2 I 72 8 v else up2 I 71 (ix (8 * w - 8 + b)) v
def m_shf (I : xI_T) : xI_T := if I 70 29 = 40 then up2 (cpy2 I 87 0 87 4 156) 70 29 (I 70 29 - 1) else I
def m_note (I : xI_T) (b w had v : Int32) : xI_T := up2 (up2 (up2 (up2 (up2 (up2 I 87 (ix (4 * I 70 29)) b) 87 (ix (4 * I 70 29 + 1)) w) 87 (ix (4 * I 70 29 + 2)) had) 87 (ix (4 * I 70 29 + 3)) v) 70 29 (I 70 29 + 1)) 70 28 (I 70 29 + 1)
def m_mend (I : xI_T) (b w v : Int32) : Int32 × xI_T := if m_isOf I b w = 0 then (-1, I) else if m_fit w v = 0 then (-1, I) else if m_get I b w = v then (m_get I b w, I) else (m_get I b w, m_note (m_shf (m_bec I b w v)) b w (m_get I b w) v)
def m_of (I : xI_T) (b w : Int32) : Int32 := if m_isOf I b w = 0 then -1 else m_get I b w
def m_undo (I : xI_T) : Int32 × xI_T := if I 70 29 = 0 then (-5, I) else
  let d := I 70 29 - 1
  (d, m_bec (up2 I 70 29 d) (I 87 (ix (4 * d))) (I 87 (ix (4 * d + 1))) (I 87 (ix (4 * d + 2))))
def m_redo (I : xI_T) : Int32 × xI_T := if I 70 29 = I 70 28 then (-5, I) else
  let d := I 70 29
  (I 70 28 - (d + 1), up2 (m_bec I (I 87 (ix (4 * d))) (I 87 (ix (4 * d + 1))) (I 87 (ix (4 * d + 3)))) 70 29 (d + 1))
-- the tape
def m_feed (I : xI_T) (c : Int32) : Int32 × xI_T := if inR c 0 255 = 0 then (-1, I) else if I 70 5 = 120 then (-3, I) else (I 70 5 + 1, up2 (up2 I 70 5 (I 70 5 + 1)) 73 (ix (I 70 5)) c)
-- the law's values
def m_both (c x y : Int32) : Int32 := if c = 6 then (if ¬ x = 0 then 1 else if ¬ y = 0 then 1 else 0) else if c = 7 then (if x = 0 then 0 else if y = 0 then 0 else 1) else if c = 8 then (if x < y then 1 else 0) else if c = 9 then (if x = y then 1 else 0) else if c = 10 then (if y < x then 1 else 0) else if c = 11 then x + y else if c = 12 then x - y else if c = 13 then x * y else if c = 14 then (if y = 0 then 0 else x / y) else (if y = 0 then 0 else x - x / y * y)
/-- one code on the stack (id 82, its height t) -/
def m_step (I : xI_T) (c : Int32) (t : Nat) : xI_T × Nat :=
  if 18 ≤ c then (up2 I 82 t (c - 18), t + 1) else if 5 < c then
    (if c = 16 then (up2 I 82 (t - 1) (if I 82 (t - 1) = 0 then 1 else 0), t) else if c = 17 then (up2 I 82 (t - 1) (-I 82 (t - 1)), t) else
    (up2 I 82 (t - 2) (m_both c (I 82 (t - 2)) (I 82 (t - 1))), t - 1))
  else (up2 I 82 t (I 83 (ix c)), t + 1)
def m_run (f : Nat) : Nat → xI_T × Nat → xI_T × Nat
  | 0, s => s
  | k + 1, s => let s1 := m_run f k s; m_step s1.1 (s1.1 77 (f + k)) s1.2
def m_work (I : xI_T) (f g : Nat) : xI_T := (m_run f (g - f) (I, 0)).1
def m_names (I : xI_T) (c : Int32) : xI_T := up2 (up2 (up2 (up2 (up2 I 83 0 (I 71 (ix c))) 83 2 (I 71 (ix (8 + c)))) 83 3 (I 72 9)) 83 4 (I 72 (ix (10 + c)))) 83 5 (I 72 8)
def m_byGo : Nat → Nat → xI_T → Int32 × xI_T
  | 0, _, I => (0, I)
  | d + 1, i, I => if I 70 8 ≤ nI i then (0, I) else
    if I 75 i ≤ I 74 i then (let J := m_work I (ix (I 75 i)) (ix (I 76 i)); (J 82 0, J)) else
    let J := m_work I (ix (I 74 i)) (ix (I 75 i))
    if J 82 0 = 0 then m_byGo d (i + 1) J else
    let K := m_work J (ix (J 75 i)) (ix (J 76 i))
    (K 82 0, K)
def m_byLaw (I : xI_T) (c : Int32) : Int32 × xI_T := m_byGo 61 0 (m_names I c)
def m_buys (I : xI_T) (c p : Int32) : Int32 × xI_T :=
  let J := up2 I 83 1 p
  let z := if J 70 7 = 0 then (5 * J 71 (ix c) + J 71 (ix (8 + c)) - 2 * J 72 (ix (10 + c)), J) else m_byLaw J c
  (jmax 0 (jmin 99 z.1), z.2)
def m_book (I : xI_T) (k w : Int32) : Int32 := if k < 0 then -1 else if inR w 0 1 = 0 then -1 else if k < I 72 18 then I 72 (ix (19 + 6 * w + k)) else -2
def m_shift (I : xI_T) (c : Nat) : xI_T := fun q j => if q = 72 ∧ 19 ≤ j ∧ j < 19 + c then I 72 (j + 1) else if q = 72 ∧ 25 ≤ j ∧ j < 25 + c then I 72 (j + 1) else I q j
def m_payTo (I : xI_T) (who much c : Int32) : xI_T :=
  let v := jmin much (I 72 (ix who))
  let I4 := up2 I 70 43 (I 70 43 + (much - v))
  let I5 := up2 I4 70 41 (I4 70 41 + v)
  let I6 := up2 I5 95 (ix (8 * who + c)) (I5 95 (ix (8 * who + c)) + v)
  let I7 := up2 I6 72 (ix who) (I6 72 (ix who) - v)
  up2 I7 72 (ix c) (jmin 999 (I7 72 (ix c) + v))
def m_first (I : xI_T) (who : Int32) : xI_T := if I 70 40 = 8 then up2 I 70 40 who else I
def m_pays (I : xI_T) (c : Int32) : xI_T :=
  let I3 := m_first (m_shift (up2 I 72 18 (I 72 18 - 1)) (ix (I 72 18 - 1))) (I 72 19)
  if I 72 19 = c then I3 else m_payTo I3 (I 72 19) (I 72 25) c
def m_payAll (c : Int32) : Nat → xI_T → xI_T
  | 0, I => I
  | d + 1, I => if I 72 18 < I 70 2 then I else m_payAll c d (m_pays I c)
def m_book1 (I : xI_T) (c : Int32) : xI_T :=
  let J1 := up2 I 72 (ix (19 + I 72 18)) c
  let J2 := up2 J1 72 (ix (25 + J1 72 18)) (J1 70 42)
  let J3 := up2 J2 72 18 (J2 72 18 + 1)
  let J4 := up2 J3 72 9 (J3 72 9 + 1)
  up2 J4 72 (ix (10 + c)) (J4 72 (ix (10 + c)) + 1)
def m_none (I : xI_T) : xI_T := up2 (up2 (up2 I 70 40 8) 70 41 0) 70 42 0
def m_out (I : xI_T) (c : Int32) : Bool := decide (I 71 (ix (16 + c)) = 1 ∧ I 70 3 = 0)
def m_goes1 (I : xI_T) (c : Int32) : xI_T :=
  let I0 := m_none I
  if m_out I0 c = true then I0 else
  let I1 := m_payAll c 7 I0
  let z := m_buys I1 c (I0 72 (ix c))
  m_book1 (up2 z.2 70 42 z.1) c
def m_goes1R (I : xI_T) (c : Int32) : Int32 := if m_out (m_none I) c = true then 0 else 1
def m_ends (I : xI_T) : xI_T := fil2 (up2 I 72 8 (jmin 99 (I 72 8 + 1))) 72 9 18 0
def m_keeps (I : xI_T) (a o : Nat) : xI_T := cpy2 I a o 72 0 31
def m_lays (I : xI_T) (a o : Nat) : xI_T := cpy2 I 72 0 a o 31
def m_goGo : Nat → xI_T → xI_T
  | 0, I => I
  | k + 1, I =>
    let J := m_goGo k I
    let J1 := m_goes1 J (J 96 k)
    let J2 := up2 J1 97 k (J1 70 40)
    let J3 := up2 J2 98 k (J2 70 41)
    up2 J3 99 k (J3 70 42)
def m_goes (I : xI_T) : xI_T := m_goGo (ix (I 70 45)) I
def m_begins (I : xI_T) : xI_T := fil2 (up2 (m_keeps I 93 0) 70 43 0) 95 0 64 0
def m_behind (I : xI_T) : xI_T := m_goes (m_begins I)
def m_pursB (I : xI_T) (o : Int32) : Int32 × xI_T := let J := m_behind I; (J 72 (ix o), m_lays J 93 0)
def m_noB (I : xI_T) (s : Int32) : Int32 := if I 90 (ix s) = -1 then -11 else if I 90 (ix s) = 0 then 0 else -12
def m_readGo (L : xL_T) (s : Int32) : Nat → xI_T → xI_T
  | 0, I => I
  | d + 1, I => if 20 ≤ I 70 45 then I else if I 91 (ix s) ≤ I 70 45 then I else if m_isB I (m_told L s (I 70 45)) = 0 then I else
    m_readGo L s d (up2 (up2 I 96 (ix (I 70 45)) (m_told L s (I 70 45))) 70 45 (I 70 45 + 1))
def m_reads (I : xI_T) (L : xL_T) (s : Int32) : xI_T := m_readGo L s 21 (up2 I 70 45 0)
-- markets in thought
def m_1pick (I : xI_T) (w one : Int32) : Int32 := if w = 0 then I 70 45 else if w = 1 then I 70 43 else if w = 2 then I 72 18 else I 72 (ix one)
def m_market (I : xI_T) (L : xL_T) (s one w : Int32) : Int32 × xI_T :=
  if inR s 0 5 = 0 then (-1, I) else if inR w 0 3 = 0 then (-1, I) else
  if w = 3 ∧ m_isB I one = 0 then (-1, I) else if ¬ w = 3 ∧ ¬ one = 0 then (-1, I) else
  if m_noB I s < 0 then (m_noB I s, I) else
  let J := m_behind (m_reads I L s)
  (m_1pick J w one, m_lays J 93 0)
def m_coming (I : xI_T) (L : xL_T) (s k w : Int32) : Int32 × xI_T :=
  if inR s 0 5 = 0 then (-1, I) else if k < 0 then (-1, I) else if inR w 0 2 = 0 then (-1, I) else
  if m_noB I s < 0 then (m_noB I s, I) else
  let J0 := m_reads I L s
  if J0 70 45 ≤ k then (-2, J0) else
  let J := m_lays (m_behind J0) 93 0
  (if w = 0 then J 97 (ix k) else if w = 1 then J 98 (ix k) else J 99 (ix k), J)
def m_lateGo : Nat → xI_T → xI_T
  | 0, I => I
  | k + 1, I => m_goes (if k = 0 then m_lateGo k I else m_ends (m_lateGo k I))
def m_later (I : xI_T) (L : xL_T) (s z one : Int32) : Int32 × xI_T :=
  if inR s 0 5 = 0 then (-1, I) else if inR z 0 20 = 0 then (-1, I) else if ¬ one = -1 ∧ m_isB I one = 0 then (-1, I) else
  if m_noB I s < 0 then (m_noB I s, I) else
  let J := m_lateGo (ix z) (m_begins (m_reads I L s))
  (if one = -1 then J 70 43 else J 72 (ix one), m_lays J 93 0)
def pshf (I : xI_T) (k z : Nat) : xI_T := fun q j => if q = 96 ∧ k < j ∧ j ≤ z then I 96 (j - 1) else I q j
def m_puts (I : xI_T) (p : Nat) (who : Int32) : xI_T := up2 (up2 (pshf I p (ix (I 70 45))) 96 p who) 70 45 (I 70 45 + 1)
def m_takes (I : xI_T) (p : Nat) : xI_T := cpy2 (up2 I 70 45 (I 70 45 - 1)) 96 p 96 (p + 1) (ix (I 70 45 - 1) - p)
/-- one try: the best so far (place, purse) and the ints -/
def m_try (I : xI_T) (p : Nat) (who one : Int32) : Int32 × xI_T := let z := m_pursB (m_puts I p who) one; (z.1, m_takes z.2 p)
def m_better (z : Int32 × Int32) (k v : Int32) : Int32 × Int32 := if v ≤ z.2 then z else (k, v)
def m_onceGo (one : Int32) : Nat → (Int32 × Int32) × xI_T → (Int32 × Int32) × xI_T
  | 0, z => z
  | k + 1, z => let y := m_onceGo one k z; let t := m_try y.2 k one one; (m_better y.1 (nI k) t.1, t.2)
def m_pick2 (w : Int32) (z : (Int32 × Int32) × xI_T) : Int32 × xI_T := (if w = 0 then z.1.1 else z.1.2, z.2)
def m_once (I : xI_T) (L : xL_T) (s one w : Int32) : Int32 × xI_T :=
  if inR s 0 5 = 0 then (-1, I) else if m_isB I one = 0 then (-1, I) else if inR w 0 1 = 0 then (-1, I) else
  if m_noB I s < 0 then (m_noB I s, I) else
  let J := m_reads I L s
  if J 70 45 = 20 then (-5, J) else m_pick2 w (m_onceGo one (ix (J 70 45) + 1) ((0, -1), J))
def m_hirGo (p : Nat) (one : Int32) : Nat → (Int32 × Int32) × xI_T → (Int32 × Int32) × xI_T
  | 0, z => z
  | k + 1, z => let y := m_hirGo p one k z; let t := m_try y.2 p (nI k) one; (m_better y.1 (nI k) t.1, t.2)
def m_hired (I : xI_T) (L : xL_T) (s p one w : Int32) : Int32 × xI_T :=
  if inR s 0 5 = 0 then (-1, I) else if p < 0 then (-1, I) else if m_isB I one = 0 then (-1, I) else if inR w 0 1 = 0 then (-1, I) else
  if m_noB I s < 0 then (m_noB I s, I) else
  let J := m_reads I L s
  if J 70 45 < p then (-1, J) else if J 70 45 = 20 then (-5, J) else m_pick2 w (m_hirGo (ix p) one (ix (J 70 0)) ((0, -1), J))
def m_swaps (I : xI_T) (k : Nat) : xI_T := up2 (up2 I 96 k (I 96 (k + 1))) 96 (k + 1) (I 96 k)
def m_latGo (one : Int32) : Nat → (Int32 × Int32) × xI_T → (Int32 × Int32) × xI_T
  | 0, z => z
  | k + 1, z => let y := m_latGo one k z; let t := m_pursB (m_swaps y.2 k) one; (m_better y.1 (nI k) t.1, m_swaps t.2 k)
def m_latch (I : xI_T) (L : xL_T) (s one w : Int32) : Int32 × xI_T :=
  if inR s 0 5 = 0 then (-1, I) else if m_isB I one = 0 then (-1, I) else if inR w 0 1 = 0 then (-1, I) else
  if m_noB I s < 0 then (m_noB I s, I) else
  let z := m_pursB (m_reads I L s) one
  m_pick2 w (m_latGo one (ix (z.2 70 45) - 1) ((-2, z.1), z.2))
def itI (f : Nat → xI_T → xI_T) : Nat → xI_T → xI_T
  | 0, I => I
  | k + 1, I => f k (itI f k I)
def m_ordL (one : Int32) (i : Nat) (I : xI_T) : xI_T :=
  let z := m_pursB (cpy2 (up2 I 70 45 (nI i)) 96 0 100 0 i) one
  if z.1 ≤ z.2 70 52 then z.2 else cpy2 (up2 z.2 70 52 z.1) 101 0 100 0 i
def m_ord (one : Int32) : Nat → Nat → Int32 → xI_T → xI_T
  | 0, _, _, I => I
  | e + 1, i, left, I => if left = 0 then m_ordL one i I else
    itI (fun b J => if (left >>> (nI b &&& 31)) &&& 1 = 0 then J else m_ord one e (i + 1) (left &&& ((1 <<< (nI b &&& 31)) ^^^ (-1))) (up2 J 100 i (nI b))) (ix (I 70 0)) I
def bitc (x : Int32) : Int32 :=
  let u := fun (z k : Int32) => ((z.toUInt32 >>> (k.toUInt32 &&& Int32.toUInt32 31)).toInt32 : Int32)
  let a := x - (u x 1 &&& 1431655765)
  let b := (a &&& 858993459) + (u a 2 &&& 858993459)
  let c := (b + u b 4) &&& 252645135
  let d := c + u c 8
  let e := d + u d 16
  e &&& 63
def m_order (I : xI_T) (set one k : Int32) : Int32 × xI_T :=
  if inR set 0 ((1 <<< (I 70 0 &&& 31)) - 1) = 0 then (-1, I) else if m_isB I one = 0 then (-1, I) else if k < -1 then (-1, I) else
  if 5 < bitc set then (-5, I) else if bitc set ≤ k then (-2, I) else
  let J := m_ord one 6 0 set (up2 I 70 52 (-1))
  (if k = -1 then J 70 52 else J 101 (ix k), J)
def irm (x y : Int32) : Int32 := x - x / y * y
def m_pair (I : xI_T) (ab : Int32) : Int32 := if ab < 0 then 0 else if m_isB I (ab / 10) = 0 then 0 else if m_isB I (irm ab 10) = 0 then 0 else if ab / 10 = irm ab 10 then 0 else 1
def m_flow (I : xI_T) (L : xL_T) (s ab : Int32) : Int32 × xI_T :=
  if inR s 0 5 = 0 then (-1, I) else if m_pair I ab = 0 then (-1, I) else if m_noB I s < 0 then (m_noB I s, I) else
  let z := m_pursB (m_reads I L s) 0
  (z.2 95 (ix (8 * (ab / 10) + irm ab 10)), z.2)
def m_ring0 (I : xI_T) : xI_T := fun q j => if q = 102 ∧ j < 64 then (if I 95 j ≤ 0 then 99 else 1) else I q j
def m_fw1 (b i : Nat) (J : xI_T) : xI_T := up2 J 102 i (jmin (J 102 i) (J 102 (i - i % 8 + b) + J 102 (8 * b + i % 8)))
def m_fw (J : xI_T) : xI_T := itI (fun b K => itI (fun i M => m_fw1 b i M) 64 K) 8 J
def m_least (J : xI_T) : Nat → Int32
  | 0 => 99
  | k + 1 => jmin (m_least J k) (J 102 (9 * k))
def m_ring (I : xI_T) : Int32 × xI_T := let J := m_fw (m_ring0 I); (if m_least J 8 = 99 then -2 else m_least J 8, J)
def m_gain (J : xI_T) : Nat → Int32
  | 0 => 0
  | k + 1 => let f := m_gain J k; if J 72 (k + 1) - J 93 (k + 1) ≤ J 72 (ix f) - J 93 (ix f) then f else nI (k + 1)
def m_round (I : xI_T) (L : xL_T) (s w : Int32) : Int32 × xI_T :=
  if inR s 0 5 = 0 then (-1, I) else if inR w 0 1 = 0 then (-1, I) else if m_noB I s < 0 then (m_noB I s, I) else if I 70 0 = 0 then (-2, I) else
  let J := m_behind (m_reads I L s)
  let K := m_lays J 93 0
  if w = 0 then m_ring K else (m_gain J (ix (I 70 0) - 1), K)
def m_areS (ss : Int32) : Int32 := if ss < 0 then 0 else if inR (ss / 10) 0 5 = 0 then 0 else if inR (irm ss 10) 0 5 = 0 then 0 else 1
def m_noR (I : xI_T) (ss : Int32) : Int32 := if m_noB I (ss / 10) < 0 then m_noB I (ss / 10) else m_noB I (irm ss 10)
def m_unlGo (J : xI_T) (L : xL_T) (s : Int32) : Nat → Nat → Int32
  | 0, _ => -2
  | d + 1, i => if J 91 (ix s) ≤ nI i then -2 else if J 70 45 ≤ nI i then nI i else if m_told L s (nI i) = 9 then m_unlGo J L s d (i + 1) else if m_told L s (nI i) = J 97 i then m_unlGo J L s d (i + 1) else nI i
def m_unl (I : xI_T) (L : xL_T) (s : Int32) : Int32 × xI_T := let J := m_lays (m_behind I) 93 0; (m_unlGo J L s 61 0, J)
def m_judge (I : xI_T) (L : xL_T) (ss : Int32) : Int32 × xI_T := if m_areS ss = 0 then (-1, I) else if m_noR I ss < 0 then (m_noR I ss, I) else m_unl (m_reads I L (ss / 10)) L (irm ss 10)
def m_bit (z v : Int32) (bits : Int32) : Int32 := if z = -2 then bits ||| (1 <<< (v &&& 31)) else bits
def m_thGo (L : xL_T) (s : Int32) : Nat → Int32 × xI_T → Int32 × xI_T
  | 0, z => z
  | k + 1, z => let y := m_thGo L s k z; let t := m_unl (up2 y.2 70 2 (nI (k + 1))) L s; (m_bit t.1 (nI (k + 1)) y.1, t.2)
def m_thirds (I : xI_T) (L : xL_T) (s : Int32) : Int32 × xI_T := let z := m_thGo L s 5 (0, I); (z.1, up2 z.2 70 2 (I 70 2))
def m_whGo (L : xL_T) (s : Int32) (p : Nat) : Nat → Int32 × xI_T → Int32 × xI_T
  | 0, z => z
  | k + 1, z => let y := m_whGo L s p k z; let t := m_unl (up2 y.2 96 p (nI k)) L s; (m_bit t.1 (nI k) y.1, t.2)
def m_whose (I : xI_T) (L : xL_T) (s : Int32) (p : Nat) : Int32 × xI_T := let z := m_whGo L s p (ix (I 70 0)) (0, I); (z.1, up2 z.2 96 p (I 96 p))
/-- wants from 9 down; how many fit, the last that fits -/
def m_waGo (L : xL_T) (s : Int32) (o : Nat) : Nat → (Int32 × Int32) × xI_T → (Int32 × Int32) × xI_T
  | 0, z => z
  | k + 1, z => let y := m_waGo L s o k z; let t := m_unl (up2 y.2 71 o (nI (9 - k))) L s; (if t.1 = -2 then (y.1.1 + 1, nI (9 - k)) else y.1, t.2)
def m_wanted (I : xI_T) (L : xL_T) (s : Int32) (o : Nat) (least : Int32) : Int32 × xI_T := let z := m_waGo L s o 10 ((0, -2), I); (if least = 0 then z.1.1 else z.1.2, up2 z.2 71 o (I 71 o))
def m_fits (I : xI_T) (L : xL_T) (ss b w : Int32) : Int32 × xI_T :=
  if m_areS ss = 0 then (-1, I) else if inR w 0 3 = 0 then (-1, I) else if b < 0 then (-1, I) else if w = 0 ∧ ¬ b = 0 then (-1, I) else if 1 < w ∧ m_isB I b = 0 then (-1, I) else
  if m_noR I ss < 0 then (m_noR I ss, I) else
  let J := m_reads I L (ss / 10)
  if w = 1 ∧ J 70 45 ≤ b then (-1, J) else
  if w = 0 then m_thirds J L (irm ss 10) else if w = 1 then m_whose J L (irm ss 10) (ix b) else m_wanted J L (irm ss 10) (ix b) (if w = 3 then 1 else 0)
-- by turns: d times left, from the i-th
def m_turn (a b : Int32) : Nat → Nat → xI_T → Int32 × xI_T
  | 0, _, I => (I 72 (ix a) - I 72 (ix b), I)
  | d + 1, i, I =>
    let o := m_turn a b d (i + 1) I
    let z := m_turn a b d (i + 1) (m_goes1 (m_keeps o.2 94 (31 * i)) (if i % 2 = 0 then a else b))
    (if i % 2 = 0 then jmax o.1 z.1 else jmin o.1 z.1, m_lays z.2 94 (31 * i))
def m_comesAt (a b : Int32) (d i : Nat) (I : xI_T) : Int32 × xI_T := let z := m_turn a b d (i + 1) (m_goes1 (m_keeps I 94 (31 * i)) (if i % 2 = 0 then a else b)); (z.1, m_lays z.2 94 (31 * i))
def m_byTurns (I : xI_T) (ab z w : Int32) : Int32 × xI_T :=
  if m_pair I ab = 0 then (-2000000000, I) else if inR z 1 5 = 0 then (-2000000000, I) else if inR w 0 1 = 0 then (-2000000000, I) else
  let o := m_turn (ab / 10) (irm ab 10) (ix z - 1) 1 I
  let c := m_comesAt (ab / 10) (irm ab 10) (ix z - 1) 0 o.2
  (if w = 0 then jmax o.1 c.1 else if o.1 < c.1 then 1 else 0, c.2)
def ush (x : Int32) (k : Int32) : Int32 := (x.toUInt32 >>> (k.toUInt32 &&& Int32.toUInt32 31)).toInt32
def m_drGo1 (c : Int32) : Nat → Int32 × xI_T → Int32 × xI_T
  | 0, y => y
  | k + 1, y => let x := m_drGo1 c k y; let z := x.1 * 1103515245 + 12345; (z, m_goes1 (if irm (ush z 16) 12 < c then m_ends x.2 else x.2) (irm (ush z 8) (x.2 70 0)))
def m_drGo2 (c one : Int32) (m : Nat) : Nat → (Int32 × Int32) × xI_T → (Int32 × Int32) × xI_T
  | 0, y => y
  | k + 1, y => let x := m_drGo2 c one m k y; let t := m_drGo1 c m (x.1.1, x.2); ((t.1, if one = -1 then x.1.2 else x.1.2 + t.2 72 (ix one)), m_lays t.2 93 0)
def m_drawn (I : xI_T) (seed nmd one : Int32) : Int32 × xI_T :=
  if nmd < 0 then (-1, I) else if inR (nmd / 10000) 1 30 = 0 then (-1, I) else if inR (irm (nmd / 100) 100) 1 60 = 0 then (-1, I) else if 12 < irm nmd 100 then (-1, I) else if ¬ one = -1 ∧ m_isB I one = 0 then (-1, I) else
  let z := if I 70 0 ≤ 0 then ((seed, 0), m_begins I) else m_drGo2 (irm nmd 100) one (ix (irm (nmd / 100) 100)) (ix (nmd / 10000)) ((seed, 0), m_begins I)
  (if one = -1 then z.2 70 43 else z.1.2, z.2)
-- in deed
def m_comes (I : xI_T) (one : Int32) : Int32 × xI_T :=
  if m_isB I one = 0 then (-1, I) else
  let J0 := up2 I 70 43 0
  let J := m_goes1 J0 one
  let J1 := if m_goes1R J0 one = 0 then J else up2 J 84 0 (J 84 0 + 1)
  let J2 := up2 J1 84 1 (J1 84 1 + J1 70 41)
  let J3 := up2 J2 84 2 (J2 84 2 + J2 70 43)
  (J3 70 41, J3)
def m_even (I : xI_T) : Int32 × xI_T := let J := m_ends I; let K := up2 J 84 3 (J 84 3 + 1); (K 72 8, K)
def m_gives (I : xI_T) (one oth v : Int32) : Int32 × xI_T :=
  if m_isB I one = 0 then (-1, I) else if m_isB I oth = 0 then (-1, I) else if one = oth then (-1, I) else if inR v 1 999 = 0 then (-1, I) else if I 72 (ix one) < v then (-5, I) else
  let J1 := up2 I 72 (ix one) (I 72 (ix one) - v)
  let J2 := up2 J1 72 (ix oth) (jmin 999 (J1 72 (ix oth) + v))
  let J3 := up2 J2 84 4 (J2 84 4 + v)
  (J3 72 (ix one), J3)
def m_led (I : xI_T) (w : Int32) : Int32 := if inR w 0 4 = 0 then -1 else I 84 (ix w)
def m_image (I : xI_T) : Int32 × xI_T := (I 84 0, cpy2 (m_keeps (up2 (up2 I 70 24 1) 70 25 (I 70 0)) 85 0) 86 0 84 0 5)
def m_since (ob : Int32) (i : Nat) : Prop := (i < 8 ∧ ob ≤ nI i) ∨ (10 + ob ≤ nI i ∧ i < 18)
-- acts
def m_above (k : Int32) : Int32 := if k = 3 then 2 else if k = 4 then 1 else if k = 5 then 3 else if k = 7 then 4 else 0
def m_ran (I : xI_T) (b : Int32) : xI_T := let J := if I 70 33 < 24 then up2 I 89 (ix (I 70 33)) b else I; up2 J 70 33 (J 70 33 + 1)
