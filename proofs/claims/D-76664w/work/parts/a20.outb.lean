/-! PLACES OUTSIDE an array, sizes below 0 -/
section XR
variable {Θ : xT_T} {l : Launch} {cls : String} {cc : ByteArray} {nL k mc ms : Nat} {ret : Option FieldType} {nm : String} {G : xG_T} {own : Nat → Prop} {post : xP_T} {ce sl n : Nat} {Ty : Nat → xs_T} {I : xI_T} {L : xL_T} {F : xF_T} {pc : Nat} {lv : List (Option Value)} {st : List Value}
theorem x_ialdZ (h : XOk Θ l cls cc nL k mc ms ret nm G own post) (hl : l.stackTraces = false) {i N : Nat} {j : Int32} (hi : i < n) (ht : Ty i = some (.inr (0, N))) (hN : N < 2 ^ 31) (hout : ¬ vp_in j N) (d : decode cc pc = .ok (.iaload, 1)) (hk : 200 ≤ k) (hce : ce + 3 ≤ mc ∧ sl + 1010 ≤ ms) (hst : (st.map fun v => v.category).sum ≤ 8)
    (kk : ∀ n' : Nat, n ≤ n' → XN Θ (ce + 3) (sl + 1010) n' (xtr n Ty) I L F pc lv st "java/lang/ArrayIndexOutOfBoundsException") : X Θ ce sl n Ty I L F pc lv (.int j :: .ref (xb G + i) :: st) := by
  have hno : XNote Θ ce sl n Ty I L F pc lv st "java/lang/ArrayIndexOutOfBoundsException" (toString "Index " ++ toString j ++ toString " out of bounds for length " ++ toString N : String) := x_note h hl xb_aio (index_text_modelled j N) (Nat.le_trans (index_text_bytes j hN) (by decide)) hk hce hst kk
  obtain ⟨⟨p, l9, e, R, s, m, args, below, meth, c, Qx⟩, G9, own9, nL9, mc9, ms9, post9⟩ := Θ
  obtain ⟨⟨rfl, rfl, rfl, rfl, rfl, rfl, rfl⟩, hx, hb, hml, hown, hts, hKK, hK, hr, hlk, rfl, hnm, hsz, hmq⟩ := h
  intro H locs ls hw hS hl9
  exact vx_ialdZ hx hb hK (hw.at hi (xcell_a ht)) 0 0 rfl rfl hout d (fun tx htx => by rw [htx]; exact hno H locs ls hw hS hl9)
theorem x_baldZ (h : XOk Θ l cls cc nL k mc ms ret nm G own post) (hl : l.stackTraces = false) {i N : Nat} {j : Int32} (hi : i < n) (ht : Ty i = some (.inr (1, N))) (hN : N < 2 ^ 31) (hout : ¬ vp_in j N) (d : decode cc pc = .ok (.baload, 1)) (hk : 200 ≤ k) (hce : ce + 3 ≤ mc ∧ sl + 1010 ≤ ms) (hst : (st.map fun v => v.category).sum ≤ 8)
    (kk : ∀ n' : Nat, n ≤ n' → XN Θ (ce + 3) (sl + 1010) n' (xtr n Ty) I L F pc lv st "java/lang/ArrayIndexOutOfBoundsException") : X Θ ce sl n Ty I L F pc lv (.int j :: .ref (xb G + i) :: st) := by
  have hno : XNote Θ ce sl n Ty I L F pc lv st "java/lang/ArrayIndexOutOfBoundsException" (toString "Index " ++ toString j ++ toString " out of bounds for length " ++ toString N : String) := x_note h hl xb_aio (index_text_modelled j N) (Nat.le_trans (index_text_bytes j hN) (by decide)) hk hce hst kk
  obtain ⟨⟨p, l9, e, R, s, m, args, below, meth, c, Qx⟩, G9, own9, nL9, mc9, ms9, post9⟩ := Θ
  obtain ⟨⟨rfl, rfl, rfl, rfl, rfl, rfl, rfl⟩, hx, hb, hml, hown, hts, hKK, hK, hr, hlk, rfl, hnm, hsz, hmq⟩ := h
  intro H locs ls hw hS hl9
  exact vx_baldZ hx hb hK (hw.at hi (xcell_a ht)) 0 1 rfl rfl hout d (fun tx htx => by rw [htx]; exact hno H locs ls hw hS hl9)
theorem x_saldZ (h : XOk Θ l cls cc nL k mc ms ret nm G own post) (hl : l.stackTraces = false) {i N : Nat} {j : Int32} (hi : i < n) (ht : Ty i = some (.inr (2, N))) (hN : N < 2 ^ 31) (hout : ¬ vp_in j N) (d : decode cc pc = .ok (.saload, 1)) (hk : 200 ≤ k) (hce : ce + 3 ≤ mc ∧ sl + 1010 ≤ ms) (hst : (st.map fun v => v.category).sum ≤ 8)
    (kk : ∀ n' : Nat, n ≤ n' → XN Θ (ce + 3) (sl + 1010) n' (xtr n Ty) I L F pc lv st "java/lang/ArrayIndexOutOfBoundsException") : X Θ ce sl n Ty I L F pc lv (.int j :: .ref (xb G + i) :: st) := by
  have hno : XNote Θ ce sl n Ty I L F pc lv st "java/lang/ArrayIndexOutOfBoundsException" (toString "Index " ++ toString j ++ toString " out of bounds for length " ++ toString N : String) := x_note h hl xb_aio (index_text_modelled j N) (Nat.le_trans (index_text_bytes j hN) (by decide)) hk hce hst kk
  obtain ⟨⟨p, l9, e, R, s, m, args, below, meth, c, Qx⟩, G9, own9, nL9, mc9, ms9, post9⟩ := Θ
  obtain ⟨⟨rfl, rfl, rfl, rfl, rfl, rfl, rfl⟩, hx, hb, hml, hown, hts, hKK, hK, hr, hlk, rfl, hnm, hsz, hmq⟩ := h
  intro H locs ls hw hS hl9
  exact vx_saldZ hx hb hK (hw.at hi (xcell_a ht)) 0 2 rfl rfl hout d (fun tx htx => by rw [htx]; exact hno H locs ls hw hS hl9)
theorem x_zaldZ (h : XOk Θ l cls cc nL k mc ms ret nm G own post) (hl : l.stackTraces = false) {i N : Nat} {j : Int32} (hi : i < n) (ht : Ty i = some (.inr (3, N))) (hN : N < 2 ^ 31) (hout : ¬ vp_in j N) (d : decode cc pc = .ok (.baload, 1)) (hk : 200 ≤ k) (hce : ce + 3 ≤ mc ∧ sl + 1010 ≤ ms) (hst : (st.map fun v => v.category).sum ≤ 8)
    (kk : ∀ n' : Nat, n ≤ n' → XN Θ (ce + 3) (sl + 1010) n' (xtr n Ty) I L F pc lv st "java/lang/ArrayIndexOutOfBoundsException") : X Θ ce sl n Ty I L F pc lv (.int j :: .ref (xb G + i) :: st) := by
  have hno : XNote Θ ce sl n Ty I L F pc lv st "java/lang/ArrayIndexOutOfBoundsException" (toString "Index " ++ toString j ++ toString " out of bounds for length " ++ toString N : String) := x_note h hl xb_aio (index_text_modelled j N) (Nat.le_trans (index_text_bytes j hN) (by decide)) hk hce hst kk
  obtain ⟨⟨p, l9, e, R, s, m, args, below, meth, c, Qx⟩, G9, own9, nL9, mc9, ms9, post9⟩ := Θ
  obtain ⟨⟨rfl, rfl, rfl, rfl, rfl, rfl, rfl⟩, hx, hb, hml, hown, hts, hKK, hK, hr, hlk, rfl, hnm, hsz, hmq⟩ := h
  intro H locs ls hw hS hl9
  exact vx_zaldZ hx hb hK (hw.at hi (xcell_a ht)) 0 3 rfl rfl hout d (fun tx htx => by rw [htx]; exact hno H locs ls hw hS hl9)
theorem x_laldZ (h : XOk Θ l cls cc nL k mc ms ret nm G own post) (hl : l.stackTraces = false) {i N : Nat} {j : Int32} (hi : i < n) (ht : Ty i = some (.inr (4, N))) (hN : N < 2 ^ 31) (hout : ¬ vp_in j N) (d : decode cc pc = .ok (.laload, 1)) (hk : 200 ≤ k) (hce : ce + 3 ≤ mc ∧ sl + 1010 ≤ ms) (hst : (st.map fun v => v.category).sum ≤ 8)
    (kk : ∀ n' : Nat, n ≤ n' → XN Θ (ce + 3) (sl + 1010) n' (xtr n Ty) I L F pc lv st "java/lang/ArrayIndexOutOfBoundsException") : X Θ ce sl n Ty I L F pc lv (.int j :: .ref (xb G + i) :: st) := by
  have hno : XNote Θ ce sl n Ty I L F pc lv st "java/lang/ArrayIndexOutOfBoundsException" (toString "Index " ++ toString j ++ toString " out of bounds for length " ++ toString N : String) := x_note h hl xb_aio (index_text_modelled j N) (Nat.le_trans (index_text_bytes j hN) (by decide)) hk hce hst kk
  obtain ⟨⟨p, l9, e, R, s, m, args, below, meth, c, Qx⟩, G9, own9, nL9, mc9, ms9, post9⟩ := Θ
  obtain ⟨⟨rfl, rfl, rfl, rfl, rfl, rfl, rfl⟩, hx, hb, hml, hown, hts, hKK, hK, hr, hlk, rfl, hnm, hsz, hmq⟩ := h
  intro H locs ls hw hS hl9
  exact vx_laldZ hx hb hK (hw.at hi (xcell_a ht)) 0 4 rfl rfl hout d (fun tx htx => by rw [htx]; exact hno H locs ls hw hS hl9)
theorem x_iastZ (h : XOk Θ l cls cc nL k mc ms ret nm G own post) (hl : l.stackTraces = false) {i N : Nat} {j : Int32} {v : Int32} (hi : i < n) (ht : Ty i = some (.inr (0, N))) (hN : N < 2 ^ 31) (hout : ¬ vp_in j N) (d : decode cc pc = .ok (.iastore, 1)) (hk : 200 ≤ k) (hce : ce + 3 ≤ mc ∧ sl + 1010 ≤ ms) (hst : (st.map fun v => v.category).sum ≤ 8)
    (kk : ∀ n' : Nat, n ≤ n' → XN Θ (ce + 3) (sl + 1010) n' (xtr n Ty) I L F pc lv st "java/lang/ArrayIndexOutOfBoundsException") : X Θ ce sl n Ty I L F pc lv (.int v :: .int j :: .ref (xb G + i) :: st) := by
  have hno : XNote Θ ce sl n Ty I L F pc lv st "java/lang/ArrayIndexOutOfBoundsException" (toString "Index " ++ toString j ++ toString " out of bounds for length " ++ toString N : String) := x_note h hl xb_aio (index_text_modelled j N) (Nat.le_trans (index_text_bytes j hN) (by decide)) hk hce hst kk
  obtain ⟨⟨p, l9, e, R, s, m, args, below, meth, c, Qx⟩, G9, own9, nL9, mc9, ms9, post9⟩ := Θ
  obtain ⟨⟨rfl, rfl, rfl, rfl, rfl, rfl, rfl⟩, hx, hb, hml, hown, hts, hKK, hK, hr, hlk, rfl, hnm, hsz, hmq⟩ := h
  intro H locs ls hw hS hl9
  exact vx_iastZ hx hb hK (hw.at hi (xcell_a ht)) 0 0 rfl rfl hout d (fun tx htx => by rw [htx]; exact hno H locs ls hw hS hl9)
theorem x_bastZ (h : XOk Θ l cls cc nL k mc ms ret nm G own post) (hl : l.stackTraces = false) {i N : Nat} {j : Int32} {v : Int32} (hi : i < n) (ht : Ty i = some (.inr (1, N))) (hN : N < 2 ^ 31) (hout : ¬ vp_in j N) (d : decode cc pc = .ok (.bastore, 1)) (hk : 200 ≤ k) (hce : ce + 3 ≤ mc ∧ sl + 1010 ≤ ms) (hst : (st.map fun v => v.category).sum ≤ 8)
    (kk : ∀ n' : Nat, n ≤ n' → XN Θ (ce + 3) (sl + 1010) n' (xtr n Ty) I L F pc lv st "java/lang/ArrayIndexOutOfBoundsException") : X Θ ce sl n Ty I L F pc lv (.int v :: .int j :: .ref (xb G + i) :: st) := by
  have hno : XNote Θ ce sl n Ty I L F pc lv st "java/lang/ArrayIndexOutOfBoundsException" (toString "Index " ++ toString j ++ toString " out of bounds for length " ++ toString N : String) := x_note h hl xb_aio (index_text_modelled j N) (Nat.le_trans (index_text_bytes j hN) (by decide)) hk hce hst kk
  obtain ⟨⟨p, l9, e, R, s, m, args, below, meth, c, Qx⟩, G9, own9, nL9, mc9, ms9, post9⟩ := Θ
  obtain ⟨⟨rfl, rfl, rfl, rfl, rfl, rfl, rfl⟩, hx, hb, hml, hown, hts, hKK, hK, hr, hlk, rfl, hnm, hsz, hmq⟩ := h
  intro H locs ls hw hS hl9
  exact vx_bastZ hx hb hK (hw.at hi (xcell_a ht)) 0 1 rfl rfl hout d (fun tx htx => by rw [htx]; exact hno H locs ls hw hS hl9)
theorem x_sastZ (h : XOk Θ l cls cc nL k mc ms ret nm G own post) (hl : l.stackTraces = false) {i N : Nat} {j : Int32} {v : Int32} (hi : i < n) (ht : Ty i = some (.inr (2, N))) (hN : N < 2 ^ 31) (hout : ¬ vp_in j N) (d : decode cc pc = .ok (.sastore, 1)) (hk : 200 ≤ k) (hce : ce + 3 ≤ mc ∧ sl + 1010 ≤ ms) (hst : (st.map fun v => v.category).sum ≤ 8)
    (kk : ∀ n' : Nat, n ≤ n' → XN Θ (ce + 3) (sl + 1010) n' (xtr n Ty) I L F pc lv st "java/lang/ArrayIndexOutOfBoundsException") : X Θ ce sl n Ty I L F pc lv (.int v :: .int j :: .ref (xb G + i) :: st) := by
  have hno : XNote Θ ce sl n Ty I L F pc lv st "java/lang/ArrayIndexOutOfBoundsException" (toString "Index " ++ toString j ++ toString " out of bounds for length " ++ toString N : String) := x_note h hl xb_aio (index_text_modelled j N) (Nat.le_trans (index_text_bytes j hN) (by decide)) hk hce hst kk
  obtain ⟨⟨p, l9, e, R, s, m, args, below, meth, c, Qx⟩, G9, own9, nL9, mc9, ms9, post9⟩ := Θ
  obtain ⟨⟨rfl, rfl, rfl, rfl, rfl, rfl, rfl⟩, hx, hb, hml, hown, hts, hKK, hK, hr, hlk, rfl, hnm, hsz, hmq⟩ := h
  intro H locs ls hw hS hl9
  exact vx_sastZ hx hb hK (hw.at hi (xcell_a ht)) 0 2 rfl rfl hout d (fun tx htx => by rw [htx]; exact hno H locs ls hw hS hl9)
theorem x_zastZ (h : XOk Θ l cls cc nL k mc ms ret nm G own post) (hl : l.stackTraces = false) {i N : Nat} {j : Int32} {v : Int32} (hi : i < n) (ht : Ty i = some (.inr (3, N))) (hN : N < 2 ^ 31) (hout : ¬ vp_in j N) (d : decode cc pc = .ok (.bastore, 1)) (hk : 200 ≤ k) (hce : ce + 3 ≤ mc ∧ sl + 1010 ≤ ms) (hst : (st.map fun v => v.category).sum ≤ 8)
    (kk : ∀ n' : Nat, n ≤ n' → XN Θ (ce + 3) (sl + 1010) n' (xtr n Ty) I L F pc lv st "java/lang/ArrayIndexOutOfBoundsException") : X Θ ce sl n Ty I L F pc lv (.int v :: .int j :: .ref (xb G + i) :: st) := by
  have hno : XNote Θ ce sl n Ty I L F pc lv st "java/lang/ArrayIndexOutOfBoundsException" (toString "Index " ++ toString j ++ toString " out of bounds for length " ++ toString N : String) := x_note h hl xb_aio (index_text_modelled j N) (Nat.le_trans (index_text_bytes j hN) (by decide)) hk hce hst kk
  obtain ⟨⟨p, l9, e, R, s, m, args, below, meth, c, Qx⟩, G9, own9, nL9, mc9, ms9, post9⟩ := Θ
  obtain ⟨⟨rfl, rfl, rfl, rfl, rfl, rfl, rfl⟩, hx, hb, hml, hown, hts, hKK, hK, hr, hlk, rfl, hnm, hsz, hmq⟩ := h
  intro H locs ls hw hS hl9
  exact vx_zastZ hx hb hK (hw.at hi (xcell_a ht)) 0 3 rfl rfl hout d (fun tx htx => by rw [htx]; exact hno H locs ls hw hS hl9)
theorem x_lastZ (h : XOk Θ l cls cc nL k mc ms ret nm G own post) (hl : l.stackTraces = false) {i N : Nat} {j : Int32} {v : Int64} (hi : i < n) (ht : Ty i = some (.inr (4, N))) (hN : N < 2 ^ 31) (hout : ¬ vp_in j N) (d : decode cc pc = .ok (.lastore, 1)) (hk : 200 ≤ k) (hce : ce + 3 ≤ mc ∧ sl + 1010 ≤ ms) (hst : (st.map fun v => v.category).sum ≤ 8)
    (kk : ∀ n' : Nat, n ≤ n' → XN Θ (ce + 3) (sl + 1010) n' (xtr n Ty) I L F pc lv st "java/lang/ArrayIndexOutOfBoundsException") : X Θ ce sl n Ty I L F pc lv (.long v :: .int j :: .ref (xb G + i) :: st) := by
  have hno : XNote Θ ce sl n Ty I L F pc lv st "java/lang/ArrayIndexOutOfBoundsException" (toString "Index " ++ toString j ++ toString " out of bounds for length " ++ toString N : String) := x_note h hl xb_aio (index_text_modelled j N) (Nat.le_trans (index_text_bytes j hN) (by decide)) hk hce hst kk
  obtain ⟨⟨p, l9, e, R, s, m, args, below, meth, c, Qx⟩, G9, own9, nL9, mc9, ms9, post9⟩ := Θ
  obtain ⟨⟨rfl, rfl, rfl, rfl, rfl, rfl, rfl⟩, hx, hb, hml, hown, hts, hKK, hK, hr, hlk, rfl, hnm, hsz, hmq⟩ := h
  intro H locs ls hw hS hl9
  exact vx_lastZ hx hb hK (hw.at hi (xcell_a ht)) 0 4 rfl rfl hout d (fun tx htx => by rw [htx]; exact hno H locs ls hw hS hl9)
theorem x_newa0Z (h : XOk Θ l cls cc nL k mc ms ret nm G own post) (hl : l.stackTraces = false) {v : Int32} (hv : v < 0) (d : decode cc pc = .ok (.newarray .int, 2)) (hk : 200 ≤ k) (hce : ce + 3 ≤ mc ∧ sl + 1010 ≤ ms) (hst : (st.map fun v => v.category).sum ≤ 8)
    (kk : ∀ n' : Nat, n ≤ n' → XN Θ (ce + 3) (sl + 1010) n' (xtr n Ty) I L F pc lv st "java/lang/NegativeArraySizeException") : X Θ ce sl n Ty I L F pc lv (.int v :: st) := by
  have hno : XNote Θ ce sl n Ty I L F pc lv st "java/lang/NegativeArraySizeException" (toString v : String) := x_note h hl xb_nas (negative_text_modelled hv) (Nat.le_trans (negative_text_bytes v) (by decide)) hk hce hst kk
  obtain ⟨⟨p, l9, e, R, s, m, args, below, meth, c, Qx⟩, G9, own9, nL9, mc9, ms9, post9⟩ := Θ
  obtain ⟨⟨rfl, rfl, rfl, rfl, rfl, rfl, rfl⟩, hx, hb, hml, hown, hts, hKK, hK, hr, hlk, rfl, hnm, hsz, hmq⟩ := h
  intro H locs ls hw hS hl9
  exact vx_newarrayZ (atype := .int) hx hb hv d (fun tx htx => by rw [htx]; exact hno H locs ls hw hS hl9)
theorem x_newa1Z (h : XOk Θ l cls cc nL k mc ms ret nm G own post) (hl : l.stackTraces = false) {v : Int32} (hv : v < 0) (d : decode cc pc = .ok (.newarray .byte, 2)) (hk : 200 ≤ k) (hce : ce + 3 ≤ mc ∧ sl + 1010 ≤ ms) (hst : (st.map fun v => v.category).sum ≤ 8)
    (kk : ∀ n' : Nat, n ≤ n' → XN Θ (ce + 3) (sl + 1010) n' (xtr n Ty) I L F pc lv st "java/lang/NegativeArraySizeException") : X Θ ce sl n Ty I L F pc lv (.int v :: st) := by
  have hno : XNote Θ ce sl n Ty I L F pc lv st "java/lang/NegativeArraySizeException" (toString v : String) := x_note h hl xb_nas (negative_text_modelled hv) (Nat.le_trans (negative_text_bytes v) (by decide)) hk hce hst kk
  obtain ⟨⟨p, l9, e, R, s, m, args, below, meth, c, Qx⟩, G9, own9, nL9, mc9, ms9, post9⟩ := Θ
  obtain ⟨⟨rfl, rfl, rfl, rfl, rfl, rfl, rfl⟩, hx, hb, hml, hown, hts, hKK, hK, hr, hlk, rfl, hnm, hsz, hmq⟩ := h
  intro H locs ls hw hS hl9
  exact vx_newarrayZ (atype := .byte) hx hb hv d (fun tx htx => by rw [htx]; exact hno H locs ls hw hS hl9)
theorem x_newa2Z (h : XOk Θ l cls cc nL k mc ms ret nm G own post) (hl : l.stackTraces = false) {v : Int32} (hv : v < 0) (d : decode cc pc = .ok (.newarray .short, 2)) (hk : 200 ≤ k) (hce : ce + 3 ≤ mc ∧ sl + 1010 ≤ ms) (hst : (st.map fun v => v.category).sum ≤ 8)
    (kk : ∀ n' : Nat, n ≤ n' → XN Θ (ce + 3) (sl + 1010) n' (xtr n Ty) I L F pc lv st "java/lang/NegativeArraySizeException") : X Θ ce sl n Ty I L F pc lv (.int v :: st) := by
  have hno : XNote Θ ce sl n Ty I L F pc lv st "java/lang/NegativeArraySizeException" (toString v : String) := x_note h hl xb_nas (negative_text_modelled hv) (Nat.le_trans (negative_text_bytes v) (by decide)) hk hce hst kk
  obtain ⟨⟨p, l9, e, R, s, m, args, below, meth, c, Qx⟩, G9, own9, nL9, mc9, ms9, post9⟩ := Θ
  obtain ⟨⟨rfl, rfl, rfl, rfl, rfl, rfl, rfl⟩, hx, hb, hml, hown, hts, hKK, hK, hr, hlk, rfl, hnm, hsz, hmq⟩ := h
  intro H locs ls hw hS hl9
  exact vx_newarrayZ (atype := .short) hx hb hv d (fun tx htx => by rw [htx]; exact hno H locs ls hw hS hl9)
theorem x_newa3Z (h : XOk Θ l cls cc nL k mc ms ret nm G own post) (hl : l.stackTraces = false) {v : Int32} (hv : v < 0) (d : decode cc pc = .ok (.newarray .boolean, 2)) (hk : 200 ≤ k) (hce : ce + 3 ≤ mc ∧ sl + 1010 ≤ ms) (hst : (st.map fun v => v.category).sum ≤ 8)
    (kk : ∀ n' : Nat, n ≤ n' → XN Θ (ce + 3) (sl + 1010) n' (xtr n Ty) I L F pc lv st "java/lang/NegativeArraySizeException") : X Θ ce sl n Ty I L F pc lv (.int v :: st) := by
  have hno : XNote Θ ce sl n Ty I L F pc lv st "java/lang/NegativeArraySizeException" (toString v : String) := x_note h hl xb_nas (negative_text_modelled hv) (Nat.le_trans (negative_text_bytes v) (by decide)) hk hce hst kk
  obtain ⟨⟨p, l9, e, R, s, m, args, below, meth, c, Qx⟩, G9, own9, nL9, mc9, ms9, post9⟩ := Θ
  obtain ⟨⟨rfl, rfl, rfl, rfl, rfl, rfl, rfl⟩, hx, hb, hml, hown, hts, hKK, hK, hr, hlk, rfl, hnm, hsz, hmq⟩ := h
  intro H locs ls hw hS hl9
  exact vx_newarrayZ (atype := .boolean) hx hb hv d (fun tx htx => by rw [htx]; exact hno H locs ls hw hS hl9)
theorem x_newa4Z (h : XOk Θ l cls cc nL k mc ms ret nm G own post) (hl : l.stackTraces = false) {v : Int32} (hv : v < 0) (d : decode cc pc = .ok (.newarray .long, 2)) (hk : 200 ≤ k) (hce : ce + 3 ≤ mc ∧ sl + 1010 ≤ ms) (hst : (st.map fun v => v.category).sum ≤ 8)
    (kk : ∀ n' : Nat, n ≤ n' → XN Θ (ce + 3) (sl + 1010) n' (xtr n Ty) I L F pc lv st "java/lang/NegativeArraySizeException") : X Θ ce sl n Ty I L F pc lv (.int v :: st) := by
  have hno : XNote Θ ce sl n Ty I L F pc lv st "java/lang/NegativeArraySizeException" (toString v : String) := x_note h hl xb_nas (negative_text_modelled hv) (Nat.le_trans (negative_text_bytes v) (by decide)) hk hce hst kk
  obtain ⟨⟨p, l9, e, R, s, m, args, below, meth, c, Qx⟩, G9, own9, nL9, mc9, ms9, post9⟩ := Θ
  obtain ⟨⟨rfl, rfl, rfl, rfl, rfl, rfl, rfl⟩, hx, hb, hml, hown, hts, hKK, hK, hr, hlk, rfl, hnm, hsz, hmq⟩ := h
  intro H locs ls hw hS hl9
  exact vx_newarrayZ (atype := .long) hx hb hv d (fun tx htx => by rw [htx]; exact hno H locs ls hw hS hl9)
end XR
