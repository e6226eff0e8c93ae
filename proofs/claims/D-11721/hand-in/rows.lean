section
/-! base: strands, words, the picture of a state -/
/-- a strand's code c (row i: 19 - i, column j: 20 + j) as the program's int -/
def sw_f (c : Nat) : Int32 := nI c - nI 20
theorem sw_fT {c : Nat} (h : c < 2 ^ 20) : (sw_f c).toInt = (c : Int) - 20 := by
  have t : (nI c - nI 20).toInt = (c : Int) - ((20 : Nat) : Int) := pk_sub_toInt (by omega) (by omega)
  unfold sw_f
  rw [t]
  omega
theorem sw_fle {c d : Nat} (hc : c < 2 ^ 20) (hd : d < 2 ^ 20) : sw_f c ≤ sw_f d ↔ c ≤ d := by
  rw [Int32.le_iff_toInt_le, sw_fT hc, sw_fT hd]
  omega
theorem sw_flt {c d : Nat} (hc : c < 2 ^ 20) (hd : d < 2 ^ 20) : sw_f c < sw_f d ↔ c < d := by
  rw [Int32.lt_iff_toInt_lt, sw_fT hc, sw_fT hd]
  omega
theorem sw_fcol (j : Nat) : nI j = sw_f (20 + j) := by
  unfold sw_f
  rw [pk_sub (by omega), Nat.add_sub_cancel_left]
theorem sw_frow : ∀ i, i < 20 → (-1 : Int32) - nI i = sw_f (19 - i) := by decide +kernel
theorem sw_fneg : ∀ i, i < 20 → -nI i = sw_f (20 - i) := by decide +kernel
theorem sw_ix (b k i : Nat) {x : Int32} (hx : x = nI k := by rfl) : nI b * x + nI i = nI (b * k + i) := by
  rw [hx, pk_mul, nI_add]
/-- the letters of the row word and of the column word of braid b -/
def sw_lA (b : Nat) (A : List Nat) (i : Nat) : Nat :=
  bif Nat.beq b 1 then (bif Nat.beq (i % 2) 0 then 9 else A.getD (i / 2) 9) else A.getD i 9
def sw_lB (b : Nat) (B : List Nat) (j : Nat) : Nat :=
  bif Nat.beq b 0 then B.getD j 9 else
  bif Nat.beq b 1 then (bif Nat.beq (j % 2) 0 then 9 else B.getD (j / 2) 9) else
  (bif Nat.blt j B.length then B.getD j 9 else B.getD (j - B.length) 9)
def sw_nA (b : Nat) (A : List Nat) : Nat := bif Nat.beq b 1 then 2 * A.length else A.length
def sw_nB (b : Nat) (B : List Nat) : Nat := bif Nat.beq b 0 then B.length else 2 * B.length
theorem sw_nA20 {b : Nat} {A : List Nat} (h : A.length ≤ 10) : sw_nA b A ≤ 20 := by
  unfold sw_nA
  cases Nat.beq b 1 <;> simp <;> omega
theorem sw_nB28 {b : Nat} {B : List Nat} (h : B.length ≤ 14) : sw_nB b B ≤ 28 := by
  unfold sw_nB
  cases Nat.beq b 0 <;> simp <;> omega
theorem sw_cl {c : Bool} {x y n : Nat} (h : x < n) (h' : y < n) : (bif c then x else y) < n := by
  cases c
  · exact h'
  · exact h
theorem sw_lA10 {b i : Nat} {A : List Nat} (h : ∀ i, A.getD i 9 < 10) : sw_lA b A i < 10 :=
  sw_cl (sw_cl (by omega) (h _)) (h _)
theorem sw_lB10 {b j : Nat} {B : List Nat} (h : ∀ j, B.getD j 9 < 10) : sw_lB b B j < 10 :=
  sw_cl (h _) (sw_cl (sw_cl (by omega) (h _)) (sw_cl (h _) (h _)))
/-- braid b of a state: the strands that leave its rows (R) and its columns (D) -/
def sw_br (b : Nat) (R D : List Nat) (a3 a4 a5 a6 : Nat → Int32) : Prop :=
  (R.length ≤ 20 ∧ D.length ≤ 28) ∧ (a3 b = nI R.length ∧ a4 b = nI D.length) ∧
  (∀ i, i < R.length → a5 (b * 20 + i) = sw_f (R.getD i 0)) ∧ (∀ j, j < D.length → a6 (b * 28 + j) = sw_f (D.getD j 0)) ∧
  (∀ i, R.getD i 0 < 64) ∧ (∀ j, D.getD j 0 < 64)
/-- a state's picture: the words A and B, the braids G -/
def sw_ok (A B : List Nat) (G : Nat → List Nat × List Nat) (u : St2) : Prop := match u with
  | (m, n, a1, a2, a3, a4, a5, a6) => (A.length ≤ 10 ∧ B.length ≤ 14) ∧ (m = nI A.length ∧ n = nI B.length) ∧
    ((∀ i, i < A.length → a1 i = nI (A.getD i 9)) ∧ (∀ i, A.getD i 9 < 10)) ∧
    ((∀ j, j < B.length → a2 j = nI (B.getD j 9)) ∧ (∀ j, B.getD j 9 < 10)) ∧
    ∀ b, b < 3 → sw_br b (G b).1 (G b).2 a3 a4 a5 a6
/-- do the strands change places: letters x and y, r comes from the left, d from above -/
def sw_sb (x y r d : Nat) : Bool := Nat.beq x y || Nat.blt d r
/-- a new row goes through the columns -/
def sw_hD (x : Nat) (y : Nat → Nat) : List Nat → Nat → Nat → List Nat
  | [], _, _ => []
  | d :: ds, j, h => bif sw_sb x (y j) h d then h :: sw_hD x y ds (j + 1) d else d :: sw_hD x y ds (j + 1) h
def sw_hH (x : Nat) (y : Nat → Nat) : List Nat → Nat → Nat → Nat
  | [], _, h => h
  | d :: ds, j, h => bif sw_sb x (y j) h d then sw_hH x y ds (j + 1) d else sw_hH x y ds (j + 1) h
/-- a new column goes through the rows -/
def sw_vR (x : Nat → Nat) (y : Nat) : List Nat → Nat → Nat → List Nat
  | [], _, _ => []
  | r :: rs, i, d => bif sw_sb (x i) y r d then d :: sw_vR x y rs (i + 1) r else r :: sw_vR x y rs (i + 1) d
def sw_vH (x : Nat → Nat) (y : Nat) : List Nat → Nat → Nat → Nat
  | [], _, d => d
  | r :: rs, i, d => bif sw_sb (x i) y r d then sw_vH x y rs (i + 1) r else sw_vH x y rs (i + 1) d
def sw_row (b : Nat) (A B : List Nat) (P : List Nat × List Nat) : List Nat × List Nat :=
  (P.1 ++ [sw_hH (sw_lA b A P.1.length) (sw_lB b B) P.2 0 (19 - P.1.length)], sw_hD (sw_lA b A P.1.length) (sw_lB b B) P.2 0 (19 - P.1.length))
def sw_col (b : Nat) (A B : List Nat) (P : List Nat × List Nat) : List Nat × List Nat :=
  (sw_vR (sw_lA b A) (sw_lB b B P.2.length) P.1 0 (20 + P.2.length), P.2 ++ [sw_vH (sw_lA b A) (sw_lB b B P.2.length) P.1 0 (20 + P.2.length)])
def sw_rows (b : Nat) (A B : List Nat) : Nat → List Nat × List Nat → List Nat × List Nat
  | 0, P => P
  | k + 1, P => sw_rows b A B k (sw_row b A B P)
def sw_cols (b : Nat) (A B : List Nat) : Nat → List Nat × List Nat → List Nat × List Nat
  | 0, P => P
  | k + 1, P => sw_cols b A B k (sw_col b A B P)
def sw_comb (b : Nat) (A B : List Nat) (r c : Nat) : List Nat × List Nat := sw_cols b A B c (sw_rows b A B r ([], []))
theorem sw_hDl (x : Nat) (y : Nat → Nat) : ∀ (ds : List Nat) (j h : Nat), (sw_hD x y ds j h).length = ds.length := by
  intro ds
  induction ds with
  | nil => intro j h; rfl
  | cons d ds ih =>
    intro j h
    unfold sw_hD
    cases sw_sb x (y j) h d
    · show (d :: sw_hD x y ds (j + 1) h).length = _
      rw [List.length_cons, List.length_cons, ih]
    · show (h :: sw_hD x y ds (j + 1) d).length = _
      rw [List.length_cons, List.length_cons, ih]
theorem sw_vRl (x : Nat → Nat) (y : Nat) : ∀ (rs : List Nat) (i d : Nat), (sw_vR x y rs i d).length = rs.length := by
  intro rs
  induction rs with
  | nil => intro i d; rfl
  | cons r rs ih =>
    intro i d
    unfold sw_vR
    cases sw_sb (x i) y r d
    · show (r :: sw_vR x y rs (i + 1) d).length = _
      rw [List.length_cons, List.length_cons, ih]
    · show (d :: sw_vR x y rs (i + 1) r).length = _
      rw [List.length_cons, List.length_cons, ih]
theorem sw_row1 (b : Nat) (A B : List Nat) (P : List Nat × List Nat) : (sw_row b A B P).1.length = P.1.length + 1 := by
  unfold sw_row
  simp
theorem sw_row2 (b : Nat) (A B : List Nat) (P : List Nat × List Nat) : (sw_row b A B P).2.length = P.2.length := sw_hDl _ _ _ _ _
theorem sw_col1 (b : Nat) (A B : List Nat) (P : List Nat × List Nat) : (sw_col b A B P).1.length = P.1.length := sw_vRl _ _ _ _ _
theorem sw_col2 (b : Nat) (A B : List Nat) (P : List Nat × List Nat) : (sw_col b A B P).2.length = P.2.length + 1 := by
  unfold sw_col
  simp
theorem sw_rowsL (b : Nat) (A B : List Nat) : ∀ (k : Nat) (P : List Nat × List Nat), (sw_rows b A B k P).1.length = P.1.length + k ∧ (sw_rows b A B k P).2.length = P.2.length := by
  intro k
  induction k with
  | zero => intro P; exact ⟨rfl, rfl⟩
  | succ k ih =>
    intro P
    obtain ⟨h1, h2⟩ := ih (sw_row b A B P)
    refine ⟨?_, ?_⟩
    · show (sw_rows b A B k (sw_row b A B P)).1.length = _
      rw [h1, sw_row1]
      omega
    · show (sw_rows b A B k (sw_row b A B P)).2.length = _
      rw [h2, sw_row2]
theorem sw_colsL (b : Nat) (A B : List Nat) : ∀ (k : Nat) (P : List Nat × List Nat), (sw_cols b A B k P).1.length = P.1.length ∧ (sw_cols b A B k P).2.length = P.2.length + k := by
  intro k
  induction k with
  | zero => intro P; exact ⟨rfl, rfl⟩
  | succ k ih =>
    intro P
    obtain ⟨h1, h2⟩ := ih (sw_col b A B P)
    refine ⟨?_, ?_⟩
    · show (sw_cols b A B k (sw_col b A B P)).1.length = _
      rw [h1, sw_col1]
    · show (sw_cols b A B k (sw_col b A B P)).2.length = _
      rw [h2, sw_col2]
      omega
theorem sw_combL (b : Nat) (A B : List Nat) (r c : Nat) : (sw_comb b A B r c).1.length = r ∧ (sw_comb b A B r c).2.length = c := by
  obtain ⟨h1, h2⟩ := sw_rowsL b A B r ([], [])
  obtain ⟨h3, h4⟩ := sw_colsL b A B c (sw_rows b A B r ([], []))
  refine ⟨?_, ?_⟩
  · show (sw_cols b A B c (sw_rows b A B r ([], []))).1.length = _
    rw [h3, h1]
    simp
  · show (sw_cols b A B c (sw_rows b A B r ([], []))).2.length = _
    rw [h4, h2]
    simp
/-- one braid changed -/
def sw_up (G : Nat → List Nat × List Nat) (b : Nat) (P : List Nat × List Nat) : Nat → List Nat × List Nat := fun c => if c = b then P else G c
theorem sw_upS {G : Nat → List Nat × List Nat} {b : Nat} {P : List Nat × List Nat} : sw_up G b P b = P := if_pos rfl
theorem sw_upN {G : Nat → List Nat × List Nat} {b c : Nat} {P : List Nat × List Nat} (h : c ≠ b) : sw_up G b P c = G c := if_neg h
theorem sw_upU {G : Nat → List Nat × List Nat} {b : Nat} {P Q : List Nat × List Nat} : sw_up (sw_up G b P) b Q = sw_up G b Q := by
  funext c
  unfold sw_up
  by_cases h : c = b
  · rw [if_pos h, if_pos h]
  · rw [if_neg h, if_neg h, if_neg h]
theorem sw_upI {G : Nat → List Nat × List Nat} {b : Nat} {P : List Nat × List Nat} (h : G b = P) : sw_up G b P = G := by
  funext c
  unfold sw_up
  by_cases e : c = b
  · rw [if_pos e, e, h]
  · rw [if_neg e]
theorem sw_okU {A B : List Nat} {G : Nat → List Nat × List Nat} {m n : Int32} {a1 a2 a3 a4 a5 a6 a3' a4' a5' a6' : Nat → Int32} {b : Nat} {R D : List Nat} (ho : sw_ok A B G (m, n, a1, a2, a3, a4, a5, a6)) (hbr : sw_br b R D a3' a4' a5' a6')
    (h3 : ∀ c, c ≠ b → a3' c = a3 c) (h4 : ∀ c, c ≠ b → a4' c = a4 c) (h5 : ∀ c i, c ≠ b → i < 20 → a5' (c * 20 + i) = a5 (c * 20 + i)) (h6 : ∀ c j, c ≠ b → j < 28 → a6' (c * 28 + j) = a6 (c * 28 + j)) :
    sw_ok A B (sw_up G b (R, D)) (m, n, a1, a2, a3', a4', a5', a6') := by
  obtain ⟨k1, k2, k3, k4, k5⟩ := ho
  refine ⟨k1, k2, k3, k4, fun c hc => ?_⟩
  by_cases e : c = b
  · subst e
    rw [sw_upS]
    exact hbr
  · rw [sw_upN e]
    obtain ⟨⟨l1, l2⟩, ⟨l3, l4⟩, l5, l6, l7, l8⟩ := k5 c hc
    exact ⟨⟨l1, l2⟩, ⟨(h3 c e).trans l3, (h4 c e).trans l4⟩, fun i hi => (h5 c i e (by omega)).trans (l5 i hi), fun j hj => (h6 c j e (by omega)).trans (l6 j hj), l7, l8⟩
/-- counts -/
def sw_ct (p : Nat → Bool) : Nat → Nat
  | 0 => 0
  | k + 1 => bif p k then sw_ct p k + 1 else sw_ct p k
/-- the strands that begin at or behind f and end before t -/
def sw_cD (D : List Nat) (f t : Nat) (j : Nat) : Bool := Nat.ble f (D.getD j 0) && Nat.blt j t
def sw_cR (R : List Nat) (l f t : Nat) (i : Nat) : Bool := Nat.ble f (R.getD i 0) && Nat.blt (l - i) t
def sw_cm (P : List Nat × List Nat) (f t : Nat) : Nat := sw_ct (sw_cD P.2 f t) P.2.length + sw_ct (sw_cR P.1 (P.2.length + P.1.length - 1) f t) P.1.length
theorem sw_ct_le (p : Nat → Bool) (k : Nat) : sw_ct p k ≤ k := by
  induction k with
  | zero => exact Nat.le_refl 0
  | succ k ih =>
    unfold sw_ct
    cases p k
    · exact Nat.le_succ_of_le ih
    · exact Nat.succ_le_succ ih
theorem sw_ct_0 {p : Nat → Bool} {k : Nat} (h : ∀ j, j < k → p j = false) : sw_ct p k = 0 := by
  induction k with
  | zero => rfl
  | succ k ih =>
    unfold sw_ct
    rw [h k (by omega)]
    exact ih (fun j hj => h j (by omega))
end
section
/-! the walks: letters, cells, rows, columns, combing -/
theorem sw_letterA {post : Int32 → Prop} {A B : List Nat} {G : Nat → List Nat × List Nat} {u : St2} {b i : Nat} (ho : sw_ok A B G u) (hb : b < 3) (hi : i < sw_nA b A) (hp : post (nI (sw_lA b A i))) : wpX_letterA post u (nI b) (nI i) := by
  obtain ⟨m, n, a1, a2, a3, a4, a5, a6⟩ := u
  obtain ⟨⟨hA, hB⟩, _, ⟨h1, _⟩, _⟩ := ho
  by_cases e : b = 1
  · subst e
    have hi' : i < 2 * A.length := hi
    have e1 : nI i &&& 1 = nI (i % 2) := pk_andN (n := i) (by omega) 1 (by decide)
    have e2 : nI i >>> ((1 : Int32) &&& 31) = nI (i / 2) := pk_shrN (n := i) (by omega) _ 1 (by decide)
    have hp' : post (nI (bif Nat.beq (i % 2) 0 then 9 else A.getD (i / 2) 9)) := hp
    refine br_t rfl ?_
    refine pk_eq (i % 2) 0 (fun z => ?_) (fun z => ?_) e1
    · rw [z] at hp'
      exact hp'
    · have z' : i % 2 = 1 := by omega
      rw [z'] at hp'
      refine ⟨pk_in (i / 2) 10 (by omega) e2, ?_⟩
      rw [e2, nI_clamp (by omega), h1 (i / 2) (by omega)]
      exact hp'
  · have hn : Nat.beq b 1 = false := by
      cases hh : Nat.beq b 1
      · rfl
      · exact absurd (Nat.eq_of_beq_eq_true hh) e
    have hi' : i < A.length := by
      unfold sw_nA at hi
      rw [hn] at hi
      exact hi
    have hp' : post (nI (A.getD i 9)) := by
      unfold sw_lA at hp
      rw [hn] at hp
      exact hp
    refine pk_eq b 1 (fun z => absurd z e) (fun _ => ⟨pk_in i 10 (by omega), ?_⟩)
    rw [nI_clamp (by omega), h1 i hi']
    exact hp'
theorem sw_letterB {post : Int32 → Prop} {A B : List Nat} {G : Nat → List Nat × List Nat} {u : St2} {b j : Nat} (ho : sw_ok A B G u) (hb : b < 3) (hj : j < sw_nB b B) (hp : post (nI (sw_lB b B j))) : wpX_letterB post u (nI b) (nI j) := by
  obtain ⟨m, n, a1, a2, a3, a4, a5, a6⟩ := u
  obtain ⟨⟨hA, hB⟩, ⟨hm, hn⟩, _, ⟨h2, _⟩, _⟩ := ho
  have hb' : b = 0 ∨ b = 1 ∨ b = 2 := by omega
  rcases hb' with e | e | e
  · subst e
    have hj' : j < B.length := hj
    refine br_t rfl ⟨pk_in j 14 (by omega), ?_⟩
    rw [nI_clamp (by omega), h2 j hj']
    exact hp
  · subst e
    have hj' : j < 2 * B.length := hj
    have e1 : nI j &&& 1 = nI (j % 2) := pk_andN (n := j) (by omega) 1 (by decide)
    have e2 : nI j >>> ((1 : Int32) &&& 31) = nI (j / 2) := pk_shrN (n := j) (by omega) _ 1 (by decide)
    have hp' : post (nI (bif Nat.beq (j % 2) 0 then 9 else B.getD (j / 2) 9)) := hp
    refine br_f (by decide) (br_t rfl ?_)
    refine pk_eq (j % 2) 0 (fun z => ?_) (fun z => ?_) e1
    · rw [z] at hp'
      exact hp'
    · have z' : j % 2 = 1 := by omega
      rw [z'] at hp'
      refine ⟨pk_in (j / 2) 14 (by omega) e2, ?_⟩
      rw [e2, nI_clamp (by omega), h2 (j / 2) (by omega)]
      exact hp'
  · subst e
    have hj' : j < 2 * B.length := hj
    have hp' : post (nI (bif Nat.blt j B.length then B.getD j 9 else B.getD (j - B.length) 9)) := hp
    refine br_f (by decide) (br_f (by decide) ?_)
    refine pk_le B.length j (fun z => ?_) (fun z => ?_) hn
    · have e1 : nI j - n = nI (j - B.length) := by rw [hn, pk_sub z]
      have z' : Nat.blt j B.length = false := by
        cases hh : Nat.blt j B.length
        · rfl
        · exact absurd (Nat.le_of_ble_eq_true hh) (by omega)
      rw [z'] at hp'
      refine ⟨pk_in (j - B.length) 14 (by omega) e1, ?_⟩
      rw [e1, nI_clamp (by omega), h2 (j - B.length) (by omega)]
      exact hp'
    · have z' : Nat.blt j B.length = true := Nat.ble_eq_true_of_le z
      rw [z'] at hp'
      refine ⟨pk_in j 14 (by omega), ?_⟩
      rw [nI_clamp (by omega), h2 j z]
      exact hp'
theorem sw_setD (l : List Nat) (i j v : Nat) (hi : i < l.length) : (l.set i v).getD j 0 = if j = i then v else l.getD j 0 := by
  by_cases e : j = i
  · subst e
    rw [if_pos rfl]
    simp [List.getD, hi]
  · rw [if_neg e]
    simp [List.getD, List.getElem?_set, Ne.symm e]
theorem sw_cell {post : St2 → Prop} {A B : List Nat} {G : Nat → List Nat × List Nat} {u : St2} {b i j r d : Nat} {R D : List Nat} (ho : sw_ok A B G u) (hb : b < 3) (hG : G b = (R, D)) (hi : i < R.length) (hj : j < D.length) (hiA : i < sw_nA b A) (hjB : j < sw_nB b B)
    (hr : R.getD i 0 = r) (hd : D.getD j 0 = d)
    (h1 : sw_sb (sw_lA b A i) (sw_lB b B j) r d = true → ∀ u', sw_ok A B (sw_up G b (R.set i d, D.set j r)) u' → post u')
    (h0 : sw_sb (sw_lA b A i) (sw_lB b B j) r d = false → post u) : wpX_cell post u (nI b) (nI i) (nI j) := by
  obtain ⟨m, n, a1, a2, a3, a4, a5, a6⟩ := u
  have hbr := ho.2.2.2.2 b hb
  rw [hG] at hbr
  obtain ⟨⟨hR, hD⟩, ⟨e3, e4⟩, e5, e6, b5, b6⟩ := hbr
  dsimp only at hR hD e3 e4 e5 e6 b5 b6
  have x5 : nI b * 20 + nI i = nI (b * 20 + i) := sw_ix b 20 i
  have x6 : nI b * 28 + nI j = nI (b * 28 + j) := sw_ix b 28 j
  have c5 : a5 (nI b * 20 + nI i).toNatClampNeg = sw_f r := by rw [x5, nI_clamp (by omega), e5 i hi, hr]
  have c6 : a6 (nI b * 28 + nI j).toNatClampNeg = sw_f d := by rw [x6, nI_clamp (by omega), e6 j hj, hd]
  have hr64 : r < 64 := hr ▸ b5 i
  have hd64 : d < 64 := hd ▸ b6 j
  have hsw : sw_sb (sw_lA b A i) (sw_lB b B j) r d = true → wX_cell_56 post (nI b) (nI i) (nI j) (sw_f r) (sw_f d) m n a1 a2 a3 a4 a5 a6 := by
    intro hs
    refine ⟨pk_in _ 60 (by omega) x5, nm_e ⟨pk_in _ 84 (by omega) x6, nm_e ?_⟩⟩
    rw [x5, x6, nI_clamp (by omega), nI_clamp (by omega)]
    refine h1 hs _ (sw_okU ho ⟨⟨?_, ?_⟩, ⟨?_, ?_⟩, ?_, ?_, ?_, ?_⟩ (fun c _ => rfl) (fun c _ => rfl) (fun c k hc hk => pk_un (by omega)) (fun c k hc hk => pk_un (by omega)))
    · rw [List.length_set]; exact hR
    · rw [List.length_set]; exact hD
    · rw [List.length_set]; exact e3
    · rw [List.length_set]; exact e4
    · intro k hk
      rw [List.length_set] at hk
      rw [sw_setD R i k d hi]
      by_cases e : k = i
      · rw [e, if_pos rfl, pk_us]
      · rw [if_neg e, pk_un (by omega), e5 k hk]
    · intro k hk
      rw [List.length_set] at hk
      rw [sw_setD D j k r hj]
      by_cases e : k = j
      · rw [e, if_pos rfl, pk_us]
      · rw [if_neg e, pk_un (by omega), e6 k hk]
    · intro k
      rw [sw_setD R i k d hi]
      by_cases e : k = i
      · rw [if_pos e]; exact hd64
      · rw [if_neg e]; exact b5 k
    · intro k
      rw [sw_setD D j k r hj]
      by_cases e : k = j
      · rw [if_pos e]; exact hr64
      · rw [if_neg e]; exact b6 k
  refine ⟨pk_in _ 60 (by omega) x5, nm_r c5 ⟨pk_in _ 84 (by omega) x6, nm_r c6 (sw_letterA ho hb hiA (sw_letterB ho hb hjB ?_))⟩⟩
  have lA := sw_lA10 (b := b) (i := i) ho.2.2.1.2
  have lB := sw_lB10 (b := b) (j := j) ho.2.2.2.1.2
  refine pk_eq (sw_lA b A i) (sw_lB b B j) (fun z => hsw ?_) (fun z => ?_) rfl rfl (by omega) (by omega)
  · unfold sw_sb
    rw [z, Nat.beq_refl]
    rfl
  · have zb : Nat.beq (sw_lA b A i) (sw_lB b B j) = false := by
      cases hh : Nat.beq (sw_lA b A i) (sw_lB b B j)
      · rfl
      · exact absurd (Nat.eq_of_beq_eq_true hh) z
    refine ek_if (sw_fle (c := r) (d := d) (by omega) (by omega)) (fun z2 => h0 ?_) (fun z2 => hsw ?_)
    · unfold sw_sb
      rw [zb]
      cases hh : Nat.blt d r
      · rfl
      · exact absurd (Nat.le_of_ble_eq_true hh) (by omega)
    · unfold sw_sb
      rw [zb]
      exact Nat.ble_eq_true_of_le (by omega)
/-- the loop of addRow -/
theorem sw_rowLoop {post : St2 → Prop} {A B : List Nat} {b : Nat} (hb : b < 3) : ∀ (rest : List Nat) (fu : Nat) (done R : List Nat) (h : Nat) (G : Nat → List Nat × List Nat) (m n : Int32) (a1 a2 a3 a4 a5 a6 : Nat → Int32),
    sw_ok A B G (m, n, a1, a2, a3, a4, a5, a6) → G b = (R ++ [h], done ++ rest) → R.length < sw_nA b A → done.length + rest.length ≤ sw_nB b B → rest.length < fu →
    (∀ u', sw_ok A B (sw_up G b (R ++ [sw_hH (sw_lA b A R.length) (sw_lB b B) rest done.length h], done ++ sw_hD (sw_lA b A R.length) (sw_lB b B) rest done.length h)) u' → post u') →
    wX_addRow_32 post (nI b) (nI R.length) fu (nI done.length) m n a1 a2 a3 a4 a5 a6 := by
  intro rest
  induction rest with
  | nil =>
    intro fu done R h G m n a1 a2 a3 a4 a5 a6 ho hG hR hD hf hp
    cases fu with
    | zero => exact absurd hf (by omega)
    | succ fu =>
      have hbr := ho.2.2.2.2 b hb
      rw [hG] at hbr
      have e4 : a4 (nI b).toNatClampNeg = nI done.length := by
        rw [nI_clamp (by omega)]
        have t : a4 b = nI (done ++ []).length := hbr.2.1.2
        rw [List.append_nil] at t
        exact t
      have hl : done.length ≤ 28 := by
        have t : (done ++ []).length ≤ 28 := hbr.1.2
        rw [List.append_nil] at t
        exact t
      refine ⟨pk_in b 3 hb, ?_⟩
      rw [e4]
      refine br_t (nI_le (Nat.le_refl _) (by omega)) (hp _ ?_)
      have t : sw_up G b (R ++ [h], done ++ []) = G := sw_upI hG
      show sw_ok A B (sw_up G b (R ++ [h], done ++ [])) _
      rw [t]
      exact ho
  | cons d ds ih =>
    intro fu done R h G m n a1 a2 a3 a4 a5 a6 ho hG hR hD hf hp
    cases fu with
    | zero => exact absurd hf (by omega)
    | succ fu =>
      have hbr := ho.2.2.2.2 b hb
      rw [hG] at hbr
      have hlen : (done ++ d :: ds).length = done.length + (ds.length + 1) := by simp
      have hc : (d :: ds).length = ds.length + 1 := rfl
      rw [hc] at hD hf
      have e4 : a4 (nI b).toNatClampNeg = nI (done.length + (ds.length + 1)) := by
        rw [nI_clamp (by omega)]
        have t : a4 b = nI (done ++ d :: ds).length := hbr.2.1.2
        rw [hlen] at t
        exact t
      have hl : done.length + (ds.length + 1) ≤ 28 := by
        have t : (done ++ d :: ds).length ≤ 28 := hbr.1.2
        rw [hlen] at t
        exact t
      have hd1 : ∀ v : Nat, (done ++ [v]).length = done.length + 1 := fun v => by simp
      refine ⟨pk_in b 3 hb, ?_⟩
      rw [e4]
      refine br_f (nI_ge (by omega) (by omega)) ?_
      refine sw_cell (R := R ++ [h]) (D := done ++ d :: ds) (r := h) (d := d) ho hb hG (by simp) (by rw [hlen]; omega) hR (by omega) (by simp) (by simp) (fun z u' ho' => ?_) (fun z => ?_)
      · obtain ⟨m', n', c1, c2, c3, c4, c5, c6⟩ := u'
        refine nm_r (nI_1 _) ?_
        have t := ih fu (done ++ [h]) R d _ m' n' c1 c2 c3 c4 c5 c6 ho'
        rw [hd1] at t
        refine t ?_ hR (by omega) (by omega) (fun u2 h2 => hp u2 ?_)
        · rw [sw_upS]
          simp
        · rw [sw_upU] at h2
          unfold sw_hH sw_hD
          rw [z, cond_true, cond_true]
          rw [List.append_assoc] at h2
          exact h2
      · refine nm_r (nI_1 _) ?_
        have t := ih fu (done ++ [d]) R h _ m n a1 a2 a3 a4 a5 a6 ho
        rw [hd1] at t
        refine t ?_ hR (by omega) (by omega) (fun u2 h2 => hp u2 ?_)
        · rw [hG]
          simp
        · unfold sw_hH sw_hD
          rw [z, cond_false, cond_false]
          rw [List.append_assoc] at h2
          exact h2
theorem sw_getApp (l : List Nat) (v i : Nat) (h : i < l.length + 1) : (l ++ [v]).getD i 0 = if i = l.length then v else l.getD i 0 := by
  by_cases e : i = l.length
  · rw [if_pos e, e]
    simp
  · rw [if_neg e]
    have h' : i < l.length := by omega
    simp [List.getD, List.getElem?_append_left h']
theorem sw_getApp64 {l : List Nat} {v : Nat} (h : ∀ i, l.getD i 0 < 64) (hv : v < 64) (i : Nat) : (l ++ [v]).getD i 0 < 64 := by
  by_cases e : i < l.length + 1
  · rw [sw_getApp l v i e]
    by_cases e2 : i = l.length
    · rw [if_pos e2]; exact hv
    · rw [if_neg e2]; exact h i
  · have : (l ++ [v]).getD i 0 = 0 := by
      have e3 : (l ++ [v]).length ≤ i := by simp; omega
      simp [List.getD, List.getElem?_eq_none e3]
    rw [this]
    omega
theorem sw_addRow {post : St2 → Prop} {A B : List Nat} {G : Nat → List Nat × List Nat} {u : St2} {b : Nat} (ho : sw_ok A B G u) (hb : b < 3) (hR : (G b).1.length < sw_nA b A) (hD : (G b).2.length ≤ sw_nB b B)
    (hp : ∀ u', sw_ok A B (sw_up G b (sw_row b A B (G b))) u' → post u') : wpX_addRow post u (nI b) := by
  obtain ⟨m, n, a1, a2, a3, a4, a5, a6⟩ := u
  rcases hG : G b with ⟨R, D⟩
  rw [hG] at hR hD hp
  have hbr := ho.2.2.2.2 b hb
  rw [hG] at hbr
  obtain ⟨⟨hR2, hD2⟩, ⟨e3, e4⟩, e5, e6, b5, b6⟩ := hbr
  dsimp only at hR hD hR2 hD2 e3 e4 e5 e6 b5 b6
  have hA := sw_nA20 (b := b) ho.1.1
  have x5 : nI b * 20 + nI R.length = nI (b * 20 + R.length) := sw_ix b 20 _
  have x3 : a3 (nI b).toNatClampNeg = nI R.length := by rw [nI_clamp (by omega), e3]
  refine ⟨pk_in b 3 hb, nm_r x3 ⟨pk_in _ 60 (by omega) x5, nm_e ⟨pk_in b 3 hb, nm_e ?_⟩⟩⟩
  rw [x5, nI_clamp (by omega), nI_clamp (by omega), nI_1, sw_frow _ (by omega)]
  refine ⟨D.length + 1, sw_rowLoop hb D _ [] R (19 - R.length) (sw_up G b (R ++ [19 - R.length], D)) _ _ _ _ _ _ _ _ (sw_okU ho ⟨⟨?_, hD2⟩, ⟨?_, e4⟩, ?_, e6, sw_getApp64 b5 (by omega), b6⟩ (fun c hc => pk_un hc) (fun c _ => rfl) (fun c k hc hk => pk_un (by omega)) (fun c k hc hk => rfl)) ?_ hR ?_ (by omega) (fun u2 h2 => hp u2 ?_)⟩
  · simp; omega
  · rw [pk_us]; simp
  · intro k hk
    have hk' : k < R.length + 1 := by simpa using hk
    rw [sw_getApp R _ k hk']
    by_cases e : k = R.length
    · rw [e, if_pos rfl, pk_us]
    · rw [if_neg e, pk_un (by omega), e5 k (by omega)]
  · rw [sw_upS]; rfl
  · simpa using hD
  · rw [sw_upU] at h2
    exact h2
/-- the loop of addColumn -/
theorem sw_colLoop {post : St2 → Prop} {A B : List Nat} {b : Nat} (hb : b < 3) : ∀ (rest : List Nat) (fu : Nat) (done D : List Nat) (h : Nat) (G : Nat → List Nat × List Nat) (m n : Int32) (a1 a2 a3 a4 a5 a6 : Nat → Int32),
    sw_ok A B G (m, n, a1, a2, a3, a4, a5, a6) → G b = (done ++ rest, D ++ [h]) → D.length < sw_nB b B → done.length + rest.length ≤ sw_nA b A → rest.length < fu →
    (∀ u', sw_ok A B (sw_up G b (done ++ sw_vR (sw_lA b A) (sw_lB b B D.length) rest done.length h, D ++ [sw_vH (sw_lA b A) (sw_lB b B D.length) rest done.length h])) u' → post u') →
    wX_addColumn_30 post (nI b) (nI D.length) fu (nI done.length) m n a1 a2 a3 a4 a5 a6 := by
  intro rest
  induction rest with
  | nil =>
    intro fu done D h G m n a1 a2 a3 a4 a5 a6 ho hG hD hR hf hp
    cases fu with
    | zero => exact absurd hf (by omega)
    | succ fu =>
      have hbr := ho.2.2.2.2 b hb
      rw [hG] at hbr
      have e3 : a3 (nI b).toNatClampNeg = nI done.length := by
        rw [nI_clamp (by omega)]
        have t : a3 b = nI (done ++ []).length := hbr.2.1.1
        rw [List.append_nil] at t
        exact t
      have hl : done.length ≤ 20 := by
        have t : (done ++ []).length ≤ 20 := hbr.1.1
        rw [List.append_nil] at t
        exact t
      refine ⟨pk_in b 3 hb, ?_⟩
      rw [e3]
      refine br_t (nI_le (Nat.le_refl _) (by omega)) (hp _ ?_)
      have t : sw_up G b (done ++ [], D ++ [h]) = G := sw_upI hG
      show sw_ok A B (sw_up G b (done ++ [], D ++ [h])) _
      rw [t]
      exact ho
  | cons r rs ih =>
    intro fu done D h G m n a1 a2 a3 a4 a5 a6 ho hG hD hR hf hp
    cases fu with
    | zero => exact absurd hf (by omega)
    | succ fu =>
      have hbr := ho.2.2.2.2 b hb
      rw [hG] at hbr
      have hlen : (done ++ r :: rs).length = done.length + (rs.length + 1) := by simp
      have hc : (r :: rs).length = rs.length + 1 := rfl
      rw [hc] at hR hf
      have e3 : a3 (nI b).toNatClampNeg = nI (done.length + (rs.length + 1)) := by
        rw [nI_clamp (by omega)]
        have t : a3 b = nI (done ++ r :: rs).length := hbr.2.1.1
        rw [hlen] at t
        exact t
      have hl : done.length + (rs.length + 1) ≤ 20 := by
        have t : (done ++ r :: rs).length ≤ 20 := hbr.1.1
        rw [hlen] at t
        exact t
      have hd1 : ∀ v : Nat, (done ++ [v]).length = done.length + 1 := fun v => by simp
      refine ⟨pk_in b 3 hb, ?_⟩
      rw [e3]
      refine br_f (nI_ge (by omega) (by omega)) ?_
      refine sw_cell (R := done ++ r :: rs) (D := D ++ [h]) (r := r) (d := h) ho hb hG (by rw [hlen]; omega) (by simp) (by omega) hD (by simp) (by simp) (fun z u' ho' => ?_) (fun z => ?_)
      · obtain ⟨m', n', c1, c2, c3, c4, c5, c6⟩ := u'
        refine nm_r (nI_1 _) ?_
        have t := ih fu (done ++ [h]) D r _ m' n' c1 c2 c3 c4 c5 c6 ho'
        rw [hd1] at t
        refine t ?_ hD (by omega) (by omega) (fun u2 h2 => hp u2 ?_)
        · rw [sw_upS]
          simp
        · rw [sw_upU] at h2
          unfold sw_vR sw_vH
          rw [z, cond_true, cond_true]
          rw [List.append_assoc] at h2
          exact h2
      · refine nm_r (nI_1 _) ?_
        have t := ih fu (done ++ [r]) D h _ m n a1 a2 a3 a4 a5 a6 ho
        rw [hd1] at t
        refine t ?_ hD (by omega) (by omega) (fun u2 h2 => hp u2 ?_)
        · rw [hG]
          simp
        · unfold sw_vR sw_vH
          rw [z, cond_false, cond_false]
          rw [List.append_assoc] at h2
          exact h2
theorem sw_addColumn {post : St2 → Prop} {A B : List Nat} {G : Nat → List Nat × List Nat} {u : St2} {b : Nat} (ho : sw_ok A B G u) (hb : b < 3) (hR : (G b).1.length ≤ sw_nA b A) (hD : (G b).2.length < sw_nB b B)
    (hp : ∀ u', sw_ok A B (sw_up G b (sw_col b A B (G b))) u' → post u') : wpX_addColumn post u (nI b) := by
  obtain ⟨m, n, a1, a2, a3, a4, a5, a6⟩ := u
  rcases hG : G b with ⟨R, D⟩
  rw [hG] at hR hD hp
  have hbr := ho.2.2.2.2 b hb
  rw [hG] at hbr
  obtain ⟨⟨hR2, hD2⟩, ⟨e3, e4⟩, e5, e6, b5, b6⟩ := hbr
  dsimp only at hR hD hR2 hD2 e3 e4 e5 e6 b5 b6
  have hB := sw_nB28 (b := b) ho.1.2
  have x6 : nI b * 28 + nI D.length = nI (b * 28 + D.length) := sw_ix b 28 _
  have x4 : a4 (nI b).toNatClampNeg = nI D.length := by rw [nI_clamp (by omega), e4]
  refine ⟨pk_in b 3 hb, nm_r x4 ⟨pk_in _ 84 (by omega) x6, nm_e ⟨pk_in b 3 hb, nm_e ?_⟩⟩⟩
  rw [x6, nI_clamp (by omega), nI_clamp (by omega), nI_1]
  refine ⟨R.length + 1, sw_colLoop hb R _ [] D (20 + D.length) (sw_up G b (R, D ++ [20 + D.length])) _ _ _ _ _ _ _ _ (sw_okU ho ⟨⟨hR2, ?_⟩, ⟨e3, ?_⟩, e5, ?_, b5, sw_getApp64 b6 (by omega)⟩ (fun c _ => rfl) (fun c hc => pk_un hc) (fun c k hc hk => rfl) (fun c k hc hk => pk_un (by omega))) ?_ hD ?_ (by omega) (fun u2 h2 => hp u2 ?_)⟩
  · simp; omega
  · rw [pk_us]; simp
  · intro k hk
    have hk' : k < D.length + 1 := by simpa using hk
    rw [sw_getApp D _ k hk']
    by_cases e : k = D.length
    · rw [e, if_pos rfl, pk_us, sw_fcol]
    · rw [if_neg e, pk_un (by omega), e6 k (by omega)]
  · rw [sw_upS]; rfl
  · simpa using hR
  · rw [sw_upU] at h2
    exact h2
end
section
/-! combing a whole braid -/
theorem sw_colsLoop {post : St2 → Prop} {A B : List Nat} {b : Nat} (hb : b < 3) : ∀ (k fu j : Nat) (G : Nat → List Nat × List Nat) (m n : Int32) (a1 a2 a3 a4 a5 a6 : Nat → Int32),
    sw_ok A B G (m, n, a1, a2, a3, a4, a5, a6) → (G b).1.length ≤ sw_nA b A → (G b).2.length + k ≤ sw_nB b B → j + k < 2 ^ 20 → k < fu →
    (∀ u', sw_ok A B (sw_up G b (sw_cols b A B k (G b))) u' → post u') →
    wX_combAll_37 post (nI b) (nI (j + k)) fu (nI j) m n a1 a2 a3 a4 a5 a6 := by
  intro k
  induction k with
  | zero =>
    intro fu j G m n a1 a2 a3 a4 a5 a6 ho hR hD hj hf hp
    cases fu with
    | zero => exact absurd hf (by omega)
    | succ fu =>
      refine br_t (nI_le (by omega) (by omega)) (hp _ ?_)
      show sw_ok A B (sw_up G b (G b)) _
      rw [sw_upI rfl]
      exact ho
  | succ k ih =>
    intro fu j G m n a1 a2 a3 a4 a5 a6 ho hR hD hj hf hp
    cases fu with
    | zero => exact absurd hf (by omega)
    | succ fu =>
      refine br_f (nI_ge (by omega) (by omega)) (sw_addColumn ho hb hR (by omega) (fun u' ho' => ?_))
      obtain ⟨m', n', c1, c2, c3, c4, c5, c6⟩ := u'
      refine nm_r (nI_1 _) ?_
      have t := ih fu (j + 1) _ m' n' c1 c2 c3 c4 c5 c6 ho'
      rw [sw_upS, sw_col1, sw_col2, show j + 1 + k = j + (k + 1) by omega] at t
      refine t hR (by omega) (by omega) (by omega) (fun u2 h2 => hp u2 ?_)
      rw [sw_upU] at h2
      exact h2
theorem sw_rowsLoop {post : St2 → Prop} {A B : List Nat} {b c : Nat} (hb : b < 3) : ∀ (k fu j : Nat) (G : Nat → List Nat × List Nat) (m n : Int32) (a1 a2 a3 a4 a5 a6 : Nat → Int32),
    sw_ok A B G (m, n, a1, a2, a3, a4, a5, a6) → (G b).1.length + k ≤ sw_nA b A → (G b).2.length + c ≤ sw_nB b B → j + k < 2 ^ 20 → c < 2 ^ 20 → k < fu →
    (∀ u', sw_ok A B (sw_up G b (sw_cols b A B c (sw_rows b A B k (G b)))) u' → post u') →
    wX_combAll_17 post (nI b) (nI (j + k)) (nI c) fu (nI j) m n a1 a2 a3 a4 a5 a6 := by
  intro k
  induction k with
  | zero =>
    intro fu j G m n a1 a2 a3 a4 a5 a6 ho hR hD hj hc hf hp
    cases fu with
    | zero => exact absurd hf (by omega)
    | succ fu =>
      refine br_t (nI_le (by omega) (by omega)) ⟨c + 1, ?_⟩
      have t := sw_colsLoop (post := post) hb c (c + 1) 0 G m n a1 a2 a3 a4 a5 a6 ho hR hD (by omega) (by omega) hp
      rw [Nat.zero_add] at t
      exact t
  | succ k ih =>
    intro fu j G m n a1 a2 a3 a4 a5 a6 ho hR hD hj hc hf hp
    cases fu with
    | zero => exact absurd hf (by omega)
    | succ fu =>
      refine br_f (nI_ge (by omega) (by omega)) (sw_addRow ho hb (by omega) (by omega) (fun u' ho' => ?_))
      obtain ⟨m', n', c1, c2, c3, c4, c5, c6⟩ := u'
      refine nm_r (nI_1 _) ?_
      have t := ih fu (j + 1) _ m' n' c1 c2 c3 c4 c5 c6 ho'
      rw [sw_upS, sw_row1, sw_row2, show j + 1 + k = j + (k + 1) by omega] at t
      refine t (by omega) hD (by omega) hc (by omega) (fun u2 h2 => hp u2 ?_)
      rw [sw_upU] at h2
      exact h2
theorem sw_combAll {post : St2 → Prop} {A B : List Nat} {G : Nat → List Nat × List Nat} {u : St2} {b r c : Nat} {x y : Int32} (ho : sw_ok A B G u) (hb : b < 3) (hr : r ≤ sw_nA b A) (hc : c ≤ sw_nB b B) (hx : x = nI r) (hy : y = nI c)
    (hp : ∀ u', sw_ok A B (sw_up G b (sw_comb b A B r c)) u' → post u') : wpX_combAll post u (nI b) x y := by
  obtain ⟨m, n, a1, a2, a3, a4, a5, a6⟩ := u
  subst hx hy
  have hA := sw_nA20 (b := b) ho.1.1
  have hB := sw_nB28 (b := b) ho.1.2
  refine ⟨pk_in b 3 hb, nm_e ⟨pk_in b 3 hb, nm_e ⟨r + 1, ?_⟩⟩⟩
  rw [nI_clamp (by omega)]
  have h0 : ∀ i, ([] : List Nat).getD i 0 < 64 := fun i => by simp
  have t := sw_rowsLoop (post := post) (c := c) hb r (r + 1) 0 (sw_up G b ([], [])) m n a1 a2 (upd a3 b 0) (upd a4 b 0) a5 a6
    (sw_okU ho ⟨⟨by simp, by simp⟩, ⟨pk_us, pk_us⟩, fun i hi => absurd hi (by simp), fun i hi => absurd hi (by simp), h0, h0⟩ (fun c hc => pk_un hc) (fun c hc => pk_un hc) (fun _ _ _ _ => rfl) (fun _ _ _ _ => rfl))
  rw [sw_upS, Nat.zero_add] at t
  refine t (by simpa using hr) (by simpa using hc) (by omega) (by omega) (by omega) (fun u2 h2 => hp u2 ?_)
  rw [sw_upU] at h2
  exact h2
theorem sw_combAgain {post : St2 → Prop} {A B : List Nat} {G : Nat → List Nat × List Nat} {u : St2} (ho : sw_ok A B G u)
    (hp : ∀ (G' : Nat → List Nat × List Nat) u', sw_ok A B G' u' → G' 0 = sw_comb 0 A B A.length B.length → G' 1 = sw_comb 1 A B (2 * A.length) (2 * B.length) → post u') : wpX_combAgain post u := by
  obtain ⟨m, n, a1, a2, a3, a4, a5, a6⟩ := u
  obtain ⟨hm, hn⟩ := ho.2.1
  refine sw_combAll (b := 0) ho (by omega) (Nat.le_refl A.length) (Nat.le_refl B.length) hm hn (fun u' ho' => ?_)
  obtain ⟨m', n', c1, c2, c3, c4, c5, c6⟩ := u'
  obtain ⟨hm', hn'⟩ := ho'.2.1
  refine sw_combAll (b := 1) ho' (by omega) (Nat.le_refl (2 * A.length)) (Nat.le_refl (2 * B.length)) ?_ ?_ (fun u2 h2 => ?_)
  · rw [hm', show (2 : Int32) = nI 2 from rfl, pk_mul]
  · rw [hn', show (2 : Int32) = nI 2 from rfl, pk_mul]
  · obtain ⟨m2, n2, d1, d2, d3, d4, d5, d6⟩ := u2
    refine hp _ _ h2 ?_ ?_
    · rw [sw_upN (by omega), sw_upS]
    · rw [sw_upS]
end
section
/-! the walks that only ask: common and what rests on it -/
theorem sw_common68 {post : Int32 → Prop} {A B : List Nat} {G : Nat → List Nat × List Nat} {m n : Int32} {a1 a2 a3 a4 a5 a6 : Nat → Int32} {b f t k : Nat} {x5 : Int32} (ho : sw_ok A B G (m, n, a1, a2, a3, a4, a5, a6)) (hb : b < 3) (hf : f < 2 ^ 20) (ht : t < 2 ^ 20) (hk : k < 2 ^ 20)
    (hx : x5 = nI ((G b).2.length + (G b).1.length) - 1)
    (hp : post ((nI t - sw_f f) - nI (k + sw_ct (sw_cR (G b).1 ((G b).2.length + (G b).1.length - 1) f t) (G b).1.length))) :
    ∃ fu, wX_common_68 post (nI b) (sw_f f) (nI t) x5 m n a1 a2 a3 a4 a5 a6 fu (nI k) 0 := by
  obtain ⟨⟨hR, hD⟩, ⟨e3, e4⟩, e5, e6, b5, b6⟩ := ho.2.2.2.2 b hb
  have x3 : a3 (nI b).toNatClampNeg = nI (G b).1.length := by rw [nI_clamp (by omega), e3]
  refine pk_loop (σ := Unit) (fun fu i _ => wX_common_68 post (nI b) (sw_f f) (nI t) x5 m n a1 a2 a3 a4 a5 a6 fu (nI (k + sw_ct (sw_cR (G b).1 ((G b).2.length + (G b).1.length - 1) f t) i)) (nI i)) (fun _ _ => True) (G b).1.length 0 () (by omega) trivial ?_ ?_
  · intro fu _ _
    refine ⟨pk_in b 3 hb, ?_⟩
    rw [x3]
    exact br_t (nI_le (Nat.le_refl _) (by omega)) hp
  · intro fu i _ hi _ hw
    have xi : nI b * 20 + nI i = nI (b * 20 + i) := sw_ix b 20 i
    have c5 : a5 (nI b * 20 + nI i).toNatClampNeg = sw_f ((G b).1.getD i 0) := by rw [xi, nI_clamp (by omega), e5 i hi]
    have bi := b5 i
    have xl : x5 - nI i = nI ((G b).2.length + (G b).1.length - 1 - i) := by
      rw [hx, show (1 : Int32) = nI 1 from rfl, pk_sub (by omega), pk_sub (by omega)]
    have hw' := hw () trivial
    have hcs : sw_ct (sw_cR (G b).1 ((G b).2.length + (G b).1.length - 1) f t) (i + 1) = bif sw_cR (G b).1 ((G b).2.length + (G b).1.length - 1) f t i then sw_ct (sw_cR (G b).1 ((G b).2.length + (G b).1.length - 1) f t) i + 1 else sw_ct (sw_cR (G b).1 ((G b).2.length + (G b).1.length - 1) f t) i := rfl
    rw [hcs] at hw'
    refine ⟨pk_in b 3 hb, ?_⟩
    rw [x3]
    refine br_f (nI_ge hi (by omega)) ⟨pk_in _ 60 (by omega) xi, ?_⟩
    rw [c5, xl]
    refine ek_if (sw_flt (by omega) hf) (fun z => nm_r (nI_1 i) ?_) (fun z => ?_)
    · have hc : sw_cR (G b).1 ((G b).2.length + (G b).1.length - 1) f t i = false := by
        unfold sw_cR
        have : Nat.ble f ((G b).1.getD i 0) = false := by
          cases hh : Nat.ble f ((G b).1.getD i 0)
          · rfl
          · exact absurd (Nat.le_of_ble_eq_true hh) (by omega)
        rw [this]
        rfl
      rw [hc] at hw'
      exact hw'
    · have hc1 : Nat.ble f ((G b).1.getD i 0) = true := Nat.ble_eq_true_of_le (by omega)
      refine pk_le t ((G b).2.length + (G b).1.length - 1 - i) (fun z2 => nm_r (nI_1 i) ?_) (fun z2 => nm_r (nI_1 _) (nm_r (nI_1 i) ?_))
      · have hc : sw_cR (G b).1 ((G b).2.length + (G b).1.length - 1) f t i = false := by
          unfold sw_cR
          have : Nat.blt ((G b).2.length + (G b).1.length - 1 - i) t = false := by
            cases hh : Nat.blt ((G b).2.length + (G b).1.length - 1 - i) t
            · rfl
            · exact absurd (Nat.le_of_ble_eq_true hh) (by omega)
          rw [this, hc1]
          rfl
        rw [hc] at hw'
        exact hw'
      · have hc : sw_cR (G b).1 ((G b).2.length + (G b).1.length - 1) f t i = true := by
          unfold sw_cR
          have : Nat.blt ((G b).2.length + (G b).1.length - 1 - i) t = true := Nat.ble_eq_true_of_le (by omega)
          rw [this, hc1]
          rfl
        rw [hc] at hw'
        exact hw'
theorem sw_common {post : Int32 → Prop} {A B : List Nat} {G : Nat → List Nat × List Nat} {u : St2} {b : Nat} {p1 p2 : Int32} (f t : Nat) (ho : sw_ok A B G u) (hb : b < 3) (hx : p1 = sw_f f) (hy : p2 = nI t) (hf : f < 2 ^ 20) (ht : t < 2 ^ 20)
    (hp : post ((nI t - sw_f f) - nI (sw_cm (G b) f t))) : wpX_common post u (nI b) p1 p2 := by
  obtain ⟨m, n, a1, a2, a3, a4, a5, a6⟩ := u
  subst hx hy
  obtain ⟨⟨hR, hD⟩, ⟨e3, e4⟩, e5, e6, b5, b6⟩ := ho.2.2.2.2 b hb
  have x3 : a3 (nI b).toNatClampNeg = nI (G b).1.length := by rw [nI_clamp (by omega), e3]
  have x4 : a4 (nI b).toNatClampNeg = nI (G b).2.length := by rw [nI_clamp (by omega), e4]
  refine ⟨pk_in b 3 hb, pk_in b 3 hb, nm_r (e' := nI ((G b).2.length + (G b).1.length) - 1) (by rw [x3, x4, nI_add]) ?_⟩
  refine pk_loop (σ := Unit) (fun fu j _ => wX_common_23 post (nI b) (sw_f f) (nI t) (nI ((G b).2.length + (G b).1.length) - 1) m n a1 a2 a3 a4 a5 a6 fu (nI (sw_ct (sw_cD (G b).2 f t) j)) (nI j)) (fun _ _ => True) (G b).2.length 0 () (by omega) trivial ?_ ?_
  · intro fu _ _
    have := sw_ct_le (sw_cD (G b).2 f t) (G b).2.length
    refine ⟨pk_in b 3 hb, ?_⟩
    rw [x4]
    exact br_t (nI_le (Nat.le_refl _) (by omega)) (sw_common68 ho hb hf ht (by omega) rfl hp)
  · intro fu j _ hj _ hw
    have xj : nI b * 28 + nI j = nI (b * 28 + j) := sw_ix b 28 j
    have c6 : a6 (nI b * 28 + nI j).toNatClampNeg = sw_f ((G b).2.getD j 0) := by rw [xj, nI_clamp (by omega), e6 j hj]
    have bj := b6 j
    have hw' := hw () trivial
    have hcs : sw_ct (sw_cD (G b).2 f t) (j + 1) = bif sw_cD (G b).2 f t j then sw_ct (sw_cD (G b).2 f t) j + 1 else sw_ct (sw_cD (G b).2 f t) j := rfl
    rw [hcs] at hw'
    refine ⟨pk_in b 3 hb, ?_⟩
    rw [x4]
    refine br_f (nI_ge hj (by omega)) ⟨pk_in _ 84 (by omega) xj, ?_⟩
    rw [c6]
    refine ek_if (sw_flt (by omega) hf) (fun z => nm_r (nI_1 j) ?_) (fun z => ?_)
    · have hc : sw_cD (G b).2 f t j = false := by
        unfold sw_cD
        have : Nat.ble f ((G b).2.getD j 0) = false := by
          cases hh : Nat.ble f ((G b).2.getD j 0)
          · rfl
          · exact absurd (Nat.le_of_ble_eq_true hh) (by omega)
        rw [this]
        rfl
      rw [hc] at hw'
      exact hw'
    · have hc1 : Nat.ble f ((G b).2.getD j 0) = true := Nat.ble_eq_true_of_le (by omega)
      refine pk_le t j (fun z2 => nm_r (nI_1 j) ?_) (fun z2 => nm_r (nI_1 _) (nm_r (nI_1 j) ?_))
      · have hc : sw_cD (G b).2 f t j = false := by
          unfold sw_cD
          have : Nat.blt j t = false := by
            cases hh : Nat.blt j t
            · rfl
            · exact absurd (Nat.le_of_ble_eq_true hh) (by omega)
          rw [this, hc1]
          rfl
        rw [hc] at hw'
        exact hw'
      · have hc : sw_cD (G b).2 f t j = true := by
          unfold sw_cD
          have : Nat.blt j t = true := Nat.ble_eq_true_of_le (by omega)
          rw [this, hc1]
          rfl
        rw [hc] at hw'
        exact hw'
/-- the widest window -/
def sw_wd (P : List Nat × List Nat) (w : Nat) : Nat → Nat
  | 0 => 0
  | k + 1 => Nat.max (sw_wd P w k) (w - sw_cm P (20 + k) (k + w))
theorem sw_val {i t c : Nat} (h : c + i ≤ t) : (nI t - sw_f (20 + i)) - nI c = nI (t - i - c) := by
  rw [← sw_fcol, pk_sub (by omega), pk_sub (by omega)]
theorem sw_wd_le (P : List Nat × List Nat) (w k : Nat) : sw_wd P w k ≤ w := by
  induction k with
  | zero => exact Nat.zero_le _
  | succ k ih => exact Nat.max_le.mpr ⟨ih, Nat.sub_le _ _⟩
theorem sw_widestOf {post : Int32 → Prop} {A B : List Nat} {G : Nat → List Nat × List Nat} {u : St2} {b : Nat} {p1 p2 : Int32} (w k : Nat) (ho : sw_ok A B G u) (hb : b < 3) (hx : p1 = nI w) (hy : p2 = nI k) (hw : w < 1000) (hk : k < 1000)
    (hc : ∀ i, i < k → sw_cm (G b) (20 + i) (i + w) ≤ w) (hp : post (nI (sw_wd (G b) w k))) : wpX_widestOf post u (nI b) p1 p2 := by
  obtain ⟨m, n, a1, a2, a3, a4, a5, a6⟩ := u
  subst hx hy
  refine pk_loop (σ := Unit) (fun fu i _ => wX_widestOf_6 post (nI b) (nI w) (nI k) m n a1 a2 a3 a4 a5 a6 fu (nI (sw_wd (G b) w i)) (nI i)) (fun _ _ => True) k 0 () (by omega) trivial ?_ ?_
  · intro fu _ _
    exact br_t (nI_le (Nat.le_refl _) (by omega)) hp
  · intro fu i _ hi _ hq
    have hq' := hq () trivial
    have hcs : sw_wd (G b) w (i + 1) = Nat.max (sw_wd (G b) w i) (w - sw_cm (G b) (20 + i) (i + w)) := rfl
    rw [hcs] at hq'
    have hci := hc i hi
    have hle := sw_wd_le (G b) w i
    refine br_f (nI_ge hi (by omega)) (sw_common (20 + i) (i + w) ho hb (sw_fcol i) (nI_add i w) (by omega) (by omega) ?_)
    rw [sw_val (by omega), show i + w - i - sw_cm (G b) (20 + i) (i + w) = w - sw_cm (G b) (20 + i) (i + w) by omega]
    refine pk_le (w - sw_cm (G b) (20 + i) (i + w)) (sw_wd (G b) w i) (fun z => nm_r (nI_1 i) ?_) (fun z => nm_r (nI_1 i) ?_)
    · rw [show Nat.max (sw_wd (G b) w i) (w - sw_cm (G b) (20 + i) (i + w)) = sw_wd (G b) w i from Nat.max_eq_left z] at hq'
      exact hq'
    · rw [show Nat.max (sw_wd (G b) w i) (w - sw_cm (G b) (20 + i) (i + w)) = w - sw_cm (G b) (20 + i) (i + w) from Nat.max_eq_right (Nat.le_of_lt z)] at hq'
      exact hq'
/-- no strand begins at a column and ends at one: every window's letters are all common -/
theorem sw_cm0 {P : List Nat × List Nat} {f t : Nat} (h : ∀ j, j < P.2.length → j < t → P.2.getD j 0 < f) (ht : t ≤ P.2.length) : sw_cm P f t = 0 := by
  unfold sw_cm
  rw [sw_ct_0, sw_ct_0]
  · intro i hi
    unfold sw_cR
    have : Nat.blt (P.2.length + P.1.length - 1 - i) t = false := by
      cases hh : Nat.blt (P.2.length + P.1.length - 1 - i) t
      · rfl
      · exact absurd (Nat.le_of_ble_eq_true hh) (by omega)
    rw [this, Bool.and_false]
  · intro j hj
    unfold sw_cD
    cases h1 : Nat.blt j t
    · rw [Bool.and_false]
    · have h2 : j < t := Nat.le_of_ble_eq_true h1
      have h3 := h j hj h2
      have : Nat.ble f (P.2.getD j 0) = false := by
        cases hh : Nat.ble f (P.2.getD j 0)
        · rfl
        · exact absurd (Nat.le_of_ble_eq_true hh) (by omega)
      rw [this]
      rfl
end
section
/-! the plain law: what the braids of the law's words are, word by word -/
def sw_q0 (A : List Nat) (c : Nat) (P : List Nat × List Nat) : List Nat × List Nat := sw_col 0 (A ++ [c]) (A ++ [c]) (sw_row 0 (A ++ [c]) A P)
def sw_q1 (A : List Nat) (c : Nat) (P : List Nat × List Nat) : List Nat × List Nat := sw_col 1 (A ++ [c]) (A ++ [c]) (sw_col 1 (A ++ [c]) (A ++ [c]) (sw_row 1 (A ++ [c]) A (sw_row 1 (A ++ [c]) A P)))
/-- the plain and the spaced braid of the law's first state -/
def sw_F0 (v w x y z : Nat) : List Nat × List Nat := sw_q0 [v, w, x, y] z (sw_q0 [v, w, x] y (sw_q0 [v, w] x (sw_q0 [v] w (sw_q0 [] v ([], [])))))
def sw_F1 (v w x y z : Nat) : List Nat × List Nat := sw_q1 [v, w, x, y] z (sw_q1 [v, w, x] y (sw_q1 [v, w] x (sw_q1 [v] w (sw_q1 [] v ([], [])))))
/-- behind shiftB -/
def sw_H0 (v w x y z : Nat) : List Nat × List Nat := sw_comb 0 [v, w, x, y, z] [w, x, y, z] 5 4
def sw_H1 (v w x y z : Nat) : List Nat × List Nat := sw_comb 1 [v, w, x, y, z] [w, x, y, z] 10 8
/-- behind growB of the first letter -/
def sw_J0 (v w x y z : Nat) : List Nat × List Nat := sw_col 0 [v, w, x, y, z] [w, x, y, z, v] (sw_H0 v w x y z)
def sw_J1 (v w x y z : Nat) : List Nat × List Nat := sw_col 1 [v, w, x, y, z] [w, x, y, z, v] (sw_col 1 [v, w, x, y, z] [w, x, y, z, v] (sw_H1 v w x y z))
/-- behind putA of another letter -/
def sw_E0 (v w x y z e : Nat) : List Nat × List Nat := sw_comb 0 [e, w, x, y, z] [w, x, y, z, v] 5 5
def sw_E1 (v w x y z e : Nat) : List Nat × List Nat := sw_comb 1 [e, w, x, y, z] [w, x, y, z, v] 10 10
def sw_lt (n : Nat) : List Nat → Bool
  | [] => true
  | d :: l => Nat.blt d n && sw_lt n l
def sw_al (p : Nat → Bool) : Nat → Bool
  | 0 => true
  | k + 1 => p k && sw_al p k
/-- the windows of the word written twice: the widest is at least g -/
def sw_kr (P : List Nat × List Nat) (g : Nat) : Bool := sw_al (fun i => Nat.ble (sw_cm P (20 + i) (i + 5)) 5) 5 && Nat.ble g (sw_wd P 5 5)
def sw_kA (P : List Nat × List Nat) : Bool := sw_al (fun j => sw_al (fun i => Nat.beq (sw_cm P (20 - i) (10 - j)) (5 - j + i)) (j + 1)) 6
def sw_ke (P Q : List Nat × List Nat) : Bool := Nat.beq (sw_cm P 19 4) 0 && Nat.ble (sw_cm P 20 5) 1 && Nat.beq (sw_cm Q 18 10) 2
def sw_k1 (v w x y z : Nat) : Bool := sw_lt 20 (sw_F0 v w x y z).2 && sw_lt 20 (sw_F1 v w x y z).2 && sw_kA (sw_F0 v w x y z) && sw_kr (sw_comb 2 [v, w, x, y, z] [v, w, x, y, z] 5 10) 5
def sw_k2 (v w x y z : Nat) : Bool := sw_lt 19 (sw_H0 v w x y z).2 && sw_lt 20 (sw_H1 v w x y z).2 && Nat.beq (sw_cm (sw_H0 v w x y z) 24 8) 0
def sw_k3 (v w x y z : Nat) : Bool := sw_kr (sw_comb 2 [v, w, x, y, z] [w, x, y, z, v] 5 10) 5 && sw_ke (sw_J0 v w x y z) (sw_J1 v w x y z)
def sw_k4 (v w x y z e : Nat) : Bool := sw_kr (sw_comb 2 [e, w, x, y, z] [w, x, y, z, v] 5 10) 4 && sw_ke (sw_E0 v w x y z e) (sw_E1 v w x y z e)
theorem sw_d1 : ∀ w, w < 2 → ∀ x, x < 3 → ∀ y, y < 4 → ∀ z, z < 4 → sw_k1 0 w x y z = true := by decide +kernel
theorem sw_d2 : ∀ w, w < 2 → ∀ x, x < 3 → ∀ y, y < 4 → ∀ z, z < 4 → sw_k2 0 w x y z = true := by decide +kernel
theorem sw_d3 : ∀ w, w < 2 → ∀ x, x < 3 → ∀ y, y < 4 → ∀ z, z < 4 → sw_k3 0 w x y z = true := by decide +kernel
theorem sw_d4 : ∀ w, w < 2 → ∀ x, x < 3 → ∀ y, y < 4 → ∀ z, z < 4 → ∀ e, e < 4 → sw_k4 0 w x y z e = true := by decide +kernel
end
section
/-! the letters' names don't matter -/
section
variable {σ : Nat → Nat} (hi : ∀ a b, σ a = σ b → a = b) (h9 : σ 9 = 9)
theorem sw_mg (h9 : σ 9 = 9) (A : List Nat) (i : Nat) : (A.map σ).getD i 9 = σ (A.getD i 9) := by
  simp only [List.getD, List.getElem?_map]
  cases A[i]? with
  | none => exact h9.symm
  | some a => rfl
theorem sw_mA (h9 : σ 9 = 9) (b : Nat) (A : List Nat) : sw_lA b (A.map σ) = fun i => σ (sw_lA b A i) := by
  funext i
  unfold sw_lA
  rw [sw_mg h9, sw_mg h9]
  cases Nat.beq b 1 <;> cases Nat.beq (i % 2) 0 <;> first | rfl | exact h9.symm
theorem sw_mB (h9 : σ 9 = 9) (b : Nat) (B : List Nat) : sw_lB b (B.map σ) = fun j => σ (sw_lB b B j) := by
  funext j
  unfold sw_lB
  rw [List.length_map, sw_mg h9, sw_mg h9, sw_mg h9]
  cases Nat.beq b 0 <;> cases Nat.beq b 1 <;> cases Nat.beq (j % 2) 0 <;> cases Nat.blt j B.length <;> first | rfl | exact h9.symm
theorem sw_ms (hi : ∀ a b, σ a = σ b → a = b) (x y r d : Nat) : sw_sb (σ x) (σ y) r d = sw_sb x y r d := by
  have t : Nat.beq (σ x) (σ y) = Nat.beq x y := by
    cases h : Nat.beq x y
    · cases h2 : Nat.beq (σ x) (σ y)
      · rfl
      · rw [hi _ _ (Nat.eq_of_beq_eq_true h2), Nat.beq_refl] at h
        exact absurd h (by decide)
    · rw [Nat.eq_of_beq_eq_true h, Nat.beq_refl]
  unfold sw_sb
  rw [t]
theorem sw_mhD (hi : ∀ a b, σ a = σ b → a = b) (x : Nat) (y : Nat → Nat) : ∀ (ds : List Nat) (j h : Nat), sw_hD (σ x) (fun j => σ (y j)) ds j h = sw_hD x y ds j h := by
  intro ds
  induction ds with
  | nil => intro j h; rfl
  | cons d ds ih =>
    intro j h
    show (bif sw_sb (σ x) (σ (y j)) h d then h :: sw_hD (σ x) (fun j => σ (y j)) ds (j + 1) d else d :: sw_hD (σ x) (fun j => σ (y j)) ds (j + 1) h) = bif sw_sb x (y j) h d then h :: sw_hD x y ds (j + 1) d else d :: sw_hD x y ds (j + 1) h
    rw [sw_ms hi, ih, ih]
theorem sw_mhH (hi : ∀ a b, σ a = σ b → a = b) (x : Nat) (y : Nat → Nat) : ∀ (ds : List Nat) (j h : Nat), sw_hH (σ x) (fun j => σ (y j)) ds j h = sw_hH x y ds j h := by
  intro ds
  induction ds with
  | nil => intro j h; rfl
  | cons d ds ih =>
    intro j h
    show (bif sw_sb (σ x) (σ (y j)) h d then sw_hH (σ x) (fun j => σ (y j)) ds (j + 1) d else sw_hH (σ x) (fun j => σ (y j)) ds (j + 1) h) = bif sw_sb x (y j) h d then sw_hH x y ds (j + 1) d else sw_hH x y ds (j + 1) h
    rw [sw_ms hi, ih, ih]
theorem sw_mvR (hi : ∀ a b, σ a = σ b → a = b) (x : Nat → Nat) (y : Nat) : ∀ (rs : List Nat) (i d : Nat), sw_vR (fun i => σ (x i)) (σ y) rs i d = sw_vR x y rs i d := by
  intro rs
  induction rs with
  | nil => intro i d; rfl
  | cons r rs ih =>
    intro i d
    show (bif sw_sb (σ (x i)) (σ y) r d then d :: sw_vR (fun i => σ (x i)) (σ y) rs (i + 1) r else r :: sw_vR (fun i => σ (x i)) (σ y) rs (i + 1) d) = bif sw_sb (x i) y r d then d :: sw_vR x y rs (i + 1) r else r :: sw_vR x y rs (i + 1) d
    rw [sw_ms hi, ih, ih]
theorem sw_mvH (hi : ∀ a b, σ a = σ b → a = b) (x : Nat → Nat) (y : Nat) : ∀ (rs : List Nat) (i d : Nat), sw_vH (fun i => σ (x i)) (σ y) rs i d = sw_vH x y rs i d := by
  intro rs
  induction rs with
  | nil => intro i d; rfl
  | cons r rs ih =>
    intro i d
    show (bif sw_sb (σ (x i)) (σ y) r d then sw_vH (fun i => σ (x i)) (σ y) rs (i + 1) r else sw_vH (fun i => σ (x i)) (σ y) rs (i + 1) d) = bif sw_sb (x i) y r d then sw_vH x y rs (i + 1) r else sw_vH x y rs (i + 1) d
    rw [sw_ms hi, ih, ih]
theorem sw_mrow (hi : ∀ a b, σ a = σ b → a = b) (h9 : σ 9 = 9) (b : Nat) (A B : List Nat) (P : List Nat × List Nat) : sw_row b (A.map σ) (B.map σ) P = sw_row b A B P := by
  unfold sw_row
  rw [sw_mA h9, sw_mB h9, sw_mhD hi, sw_mhH hi]
theorem sw_mcol (hi : ∀ a b, σ a = σ b → a = b) (h9 : σ 9 = 9) (b : Nat) (A B : List Nat) (P : List Nat × List Nat) : sw_col b (A.map σ) (B.map σ) P = sw_col b A B P := by
  unfold sw_col
  rw [sw_mA h9, sw_mB h9, sw_mvR hi, sw_mvH hi]
theorem sw_mrows (hi : ∀ a b, σ a = σ b → a = b) (h9 : σ 9 = 9) (b : Nat) (A B : List Nat) : ∀ (k : Nat) (P : List Nat × List Nat), sw_rows b (A.map σ) (B.map σ) k P = sw_rows b A B k P := by
  intro k
  induction k with
  | zero => intro P; rfl
  | succ k ih =>
    intro P
    show sw_rows b (A.map σ) (B.map σ) k (sw_row b (A.map σ) (B.map σ) P) = sw_rows b A B k (sw_row b A B P)
    rw [sw_mrow hi h9, ih]
theorem sw_mcols (hi : ∀ a b, σ a = σ b → a = b) (h9 : σ 9 = 9) (b : Nat) (A B : List Nat) : ∀ (k : Nat) (P : List Nat × List Nat), sw_cols b (A.map σ) (B.map σ) k P = sw_cols b A B k P := by
  intro k
  induction k with
  | zero => intro P; rfl
  | succ k ih =>
    intro P
    show sw_cols b (A.map σ) (B.map σ) k (sw_col b (A.map σ) (B.map σ) P) = sw_cols b A B k (sw_col b A B P)
    rw [sw_mcol hi h9, ih]
theorem sw_mcomb (hi : ∀ a b, σ a = σ b → a = b) (h9 : σ 9 = 9) (b : Nat) (A B : List Nat) (r c : Nat) : sw_comb b (A.map σ) (B.map σ) r c = sw_comb b A B r c := by
  unfold sw_comb
  rw [sw_mrows hi h9, sw_mcols hi h9]
theorem sw_mq0 (hi : ∀ a b, σ a = σ b → a = b) (h9 : σ 9 = 9) (A : List Nat) (c : Nat) (P : List Nat × List Nat) : sw_q0 (A.map σ) (σ c) P = sw_q0 A c P := by
  have t : A.map σ ++ [σ c] = (A ++ [c]).map σ := by simp
  unfold sw_q0
  rw [t, sw_mcol hi h9, sw_mrow hi h9]
theorem sw_mq1 (hi : ∀ a b, σ a = σ b → a = b) (h9 : σ 9 = 9) (A : List Nat) (c : Nat) (P : List Nat × List Nat) : sw_q1 (A.map σ) (σ c) P = sw_q1 A c P := by
  have t : A.map σ ++ [σ c] = (A ++ [c]).map σ := by simp
  unfold sw_q1
  rw [t, sw_mcol hi h9, sw_mcol hi h9, sw_mrow hi h9, sw_mrow hi h9]
theorem sw_mF0 (hi : ∀ a b, σ a = σ b → a = b) (h9 : σ 9 = 9) (v w x y z : Nat) : sw_F0 (σ v) (σ w) (σ x) (σ y) (σ z) = sw_F0 v w x y z := by
  show sw_q0 ([v, w, x, y].map σ) (σ z) (sw_q0 ([v, w, x].map σ) (σ y) (sw_q0 ([v, w].map σ) (σ x) (sw_q0 ([v].map σ) (σ w) (sw_q0 ([].map σ) (σ v) ([], []))))) = _
  rw [sw_mq0 hi h9, sw_mq0 hi h9, sw_mq0 hi h9, sw_mq0 hi h9, sw_mq0 hi h9]
  rfl
theorem sw_mF1 (hi : ∀ a b, σ a = σ b → a = b) (h9 : σ 9 = 9) (v w x y z : Nat) : sw_F1 (σ v) (σ w) (σ x) (σ y) (σ z) = sw_F1 v w x y z := by
  show sw_q1 ([v, w, x, y].map σ) (σ z) (sw_q1 ([v, w, x].map σ) (σ y) (sw_q1 ([v, w].map σ) (σ x) (sw_q1 ([v].map σ) (σ w) (sw_q1 ([].map σ) (σ v) ([], []))))) = _
  rw [sw_mq1 hi h9, sw_mq1 hi h9, sw_mq1 hi h9, sw_mq1 hi h9, sw_mq1 hi h9]
  rfl
theorem sw_mk1 (hi : ∀ a b, σ a = σ b → a = b) (h9 : σ 9 = 9) (v w x y z : Nat) : sw_k1 (σ v) (σ w) (σ x) (σ y) (σ z) = sw_k1 v w x y z := by
  have t : sw_comb 2 [σ v, σ w, σ x, σ y, σ z] [σ v, σ w, σ x, σ y, σ z] 5 10 = sw_comb 2 [v, w, x, y, z] [v, w, x, y, z] 5 10 := sw_mcomb hi h9 2 [v, w, x, y, z] [v, w, x, y, z] 5 10
  unfold sw_k1
  rw [sw_mF0 hi h9, sw_mF1 hi h9, t]
theorem sw_mH0 (hi : ∀ a b, σ a = σ b → a = b) (h9 : σ 9 = 9) (v w x y z : Nat) : sw_H0 (σ v) (σ w) (σ x) (σ y) (σ z) = sw_H0 v w x y z := sw_mcomb hi h9 0 [v, w, x, y, z] [w, x, y, z] 5 4
theorem sw_mH1 (hi : ∀ a b, σ a = σ b → a = b) (h9 : σ 9 = 9) (v w x y z : Nat) : sw_H1 (σ v) (σ w) (σ x) (σ y) (σ z) = sw_H1 v w x y z := sw_mcomb hi h9 1 [v, w, x, y, z] [w, x, y, z] 10 8
theorem sw_mk2 (hi : ∀ a b, σ a = σ b → a = b) (h9 : σ 9 = 9) (v w x y z : Nat) : sw_k2 (σ v) (σ w) (σ x) (σ y) (σ z) = sw_k2 v w x y z := by
  unfold sw_k2
  rw [sw_mH0 hi h9, sw_mH1 hi h9]
theorem sw_mk3 (hi : ∀ a b, σ a = σ b → a = b) (h9 : σ 9 = 9) (v w x y z : Nat) : sw_k3 (σ v) (σ w) (σ x) (σ y) (σ z) = sw_k3 v w x y z := by
  have t : sw_comb 2 [σ v, σ w, σ x, σ y, σ z] [σ w, σ x, σ y, σ z, σ v] 5 10 = sw_comb 2 [v, w, x, y, z] [w, x, y, z, v] 5 10 := sw_mcomb hi h9 2 [v, w, x, y, z] [w, x, y, z, v] 5 10
  have t0 : ∀ b P, sw_col b [σ v, σ w, σ x, σ y, σ z] [σ w, σ x, σ y, σ z, σ v] P = sw_col b [v, w, x, y, z] [w, x, y, z, v] P := fun b P => sw_mcol hi h9 b [v, w, x, y, z] [w, x, y, z, v] P
  unfold sw_k3 sw_J0 sw_J1
  rw [sw_mH0 hi h9, sw_mH1 hi h9, t, t0, t0, t0]
theorem sw_mk4 (hi : ∀ a b, σ a = σ b → a = b) (h9 : σ 9 = 9) (v w x y z e : Nat) : sw_k4 (σ v) (σ w) (σ x) (σ y) (σ z) (σ e) = sw_k4 v w x y z e := by
  have t : ∀ b r c, sw_comb b [σ e, σ w, σ x, σ y, σ z] [σ w, σ x, σ y, σ z, σ v] r c = sw_comb b [e, w, x, y, z] [w, x, y, z, v] r c := fun b r c => sw_mcomb hi h9 b [e, w, x, y, z] [w, x, y, z, v] r c
  unfold sw_k4 sw_E0 sw_E1
  rw [t, t, t]
end
/-- two letters change their names -/
def sw_ex (p q n : Nat) : Nat := if n = p then q else if n = q then p else n
theorem sw_exi (p q a b : Nat) (h : sw_ex p q a = sw_ex p q b) : a = b := by
  unfold sw_ex at h
  split at h <;> split at h <;> (try split at h) <;> (try split at h) <;> omega
theorem sw_ex4 {p q n : Nat} (hp : p < 4) (hq : q < 4) (hn : n < 4) : sw_ex p q n < 4 := by
  unfold sw_ex
  split
  · exact hq
  · split
    · exact hp
    · exact hn
theorem sw_wlog (K : Nat → Nat → Nat → Nat → Nat → Nat → Prop)
    (hK : ∀ σ : Nat → Nat, (∀ a b, σ a = σ b → a = b) → σ 9 = 9 → ∀ v w x y z e, K (σ v) (σ w) (σ x) (σ y) (σ z) (σ e) → K v w x y z e)
    (h0 : ∀ w, w < 2 → ∀ x, x < 3 → ∀ y, y < 4 → ∀ z, z < 4 → ∀ e, e < 4 → K 0 w x y z e) :
    ∀ v w x y z e, v < 4 → w < 4 → x < 4 → y < 4 → z < 4 → e < 4 → K v w x y z e := by
  have h1 : ∀ w x y z e, w < 2 → x < 4 → y < 4 → z < 4 → e < 4 → K 0 w x y z e := by
    intro w x y z e hw hx hy hz he
    by_cases c : x < 3
    · exact h0 w hw x c y hy z hz e he
    · have cx : x = 3 := by omega
      subst cx
      refine hK (sw_ex 2 3) (sw_exi 2 3) rfl 0 w 3 y z e ?_
      have ew : sw_ex 2 3 w = w := by
        unfold sw_ex
        rw [if_neg (by omega), if_neg (by omega)]
      rw [ew]
      exact h0 w hw 2 (by omega) _ (sw_ex4 (by omega) (by omega) hy) _ (sw_ex4 (by omega) (by omega) hz) _ (sw_ex4 (by omega) (by omega) he)
  have h2 : ∀ w x y z e, w < 4 → x < 4 → y < 4 → z < 4 → e < 4 → K 0 w x y z e := by
    intro w x y z e hw hx hy hz he
    by_cases c : w < 2
    · exact h1 w x y z e c hx hy hz he
    · refine hK (sw_ex 1 w) (sw_exi 1 w) ?_ 0 w x y z e ?_
      · unfold sw_ex
        rw [if_neg (by omega), if_neg (by omega)]
      · have e0 : sw_ex 1 w 0 = 0 := by
          unfold sw_ex
          rw [if_neg (by omega), if_neg (by omega)]
        have ew : sw_ex 1 w w = 1 := by
          unfold sw_ex
          rw [if_neg (by omega), if_pos rfl]
        rw [e0, ew]
        exact h1 1 _ _ _ _ (by omega) (sw_ex4 (by omega) hw hx) (sw_ex4 (by omega) hw hy) (sw_ex4 (by omega) hw hz) (sw_ex4 (by omega) hw he)
  intro v w x y z e hv hw hx hy hz he
  by_cases c : v = 0
  · rw [c]
    exact h2 w x y z e hw hx hy hz he
  · refine hK (sw_ex 0 v) (sw_exi 0 v) ?_ v w x y z e ?_
    · unfold sw_ex
      rw [if_neg (by omega), if_neg (by omega)]
    · have ev : sw_ex 0 v v = 0 := by
        unfold sw_ex
        rw [if_neg c, if_pos rfl]
      rw [ev]
      exact h2 _ _ _ _ _ (sw_ex4 (by omega) hv hw) (sw_ex4 (by omega) hv hx) (sw_ex4 (by omega) hv hy) (sw_ex4 (by omega) hv hz) (sw_ex4 (by omega) hv he)
theorem sw_t1 {v w x y z : Nat} (hv : v < 4) (hw : w < 4) (hx : x < 4) (hy : y < 4) (hz : z < 4) : sw_k1 v w x y z = true :=
  sw_wlog (fun v w x y z _ => sw_k1 v w x y z = true) (fun σ hi h9 v w x y z _ h => (sw_mk1 hi h9 v w x y z) ▸ h) (fun w hw x hx y hy z hz _ _ => sw_d1 w hw x hx y hy z hz) v w x y z 0 hv hw hx hy hz (by omega)
theorem sw_t2 {v w x y z : Nat} (hv : v < 4) (hw : w < 4) (hx : x < 4) (hy : y < 4) (hz : z < 4) : sw_k2 v w x y z = true :=
  sw_wlog (fun v w x y z _ => sw_k2 v w x y z = true) (fun σ hi h9 v w x y z _ h => (sw_mk2 hi h9 v w x y z) ▸ h) (fun w hw x hx y hy z hz _ _ => sw_d2 w hw x hx y hy z hz) v w x y z 0 hv hw hx hy hz (by omega)
theorem sw_t3 {v w x y z : Nat} (hv : v < 4) (hw : w < 4) (hx : x < 4) (hy : y < 4) (hz : z < 4) : sw_k3 v w x y z = true :=
  sw_wlog (fun v w x y z _ => sw_k3 v w x y z = true) (fun σ hi h9 v w x y z _ h => (sw_mk3 hi h9 v w x y z) ▸ h) (fun w hw x hx y hy z hz _ _ => sw_d3 w hw x hx y hy z hz) v w x y z 0 hv hw hx hy hz (by omega)
theorem sw_t4 {v w x y z e : Nat} (hv : v < 4) (hw : w < 4) (hx : x < 4) (hy : y < 4) (hz : z < 4) (he : e < 4) : sw_k4 v w x y z e = true :=
  sw_wlog (fun v w x y z e => sw_k4 v w x y z e = true) (fun σ hi h9 v w x y z e h => (sw_mk4 hi h9 v w x y z e) ▸ h) sw_d4 v w x y z e hv hw hx hy hz he
end
section
/-! the walks that change the words: growA, growB, shiftB, putA, rotated -/
theorem sw_w9 {l : List Nat} {c i : Nat} (h : ∀ i, l.getD i 9 < 10) (hc : c < 4) : (l ++ [c]).getD i 9 < 10 := by
  by_cases e : i < l.length
  · have t : (l ++ [c]).getD i 9 = l.getD i 9 := by simp [List.getD, List.getElem?_append_left e]
    rw [t]
    exact h i
  · by_cases e2 : i = l.length
    · rw [e2]
      simp
      omega
    · have e3 : (l ++ [c]).length ≤ i := by simp; omega
      have t : (l ++ [c]).getD i 9 = 9 := by simp [List.getD, List.getElem?_eq_none e3]
      rw [t]
      omega
theorem sw_wA {l : List Nat} {c i : Nat} (h : i < l.length + 1) : (l ++ [c]).getD i 9 = if i = l.length then c else l.getD i 9 := by
  by_cases e : i = l.length
  · rw [if_pos e, e]
    simp
  · rw [if_neg e]
    have h' : i < l.length := by omega
    simp [List.getD, List.getElem?_append_left h']
theorem sw_badLetter {post : Int32 → Prop} {u : St2} {c : Nat} (hc : c < 4) (hp : post 0) : wpX_badLetter post u (nI c) := by
  obtain ⟨m, n, a1, a2, a3, a4, a5, a6⟩ := u
  exact br_f (nI_pos (by omega)) (br_t (nI_le (b := 3) (by omega) (by omega)) hp)
theorem sw_growA {post : Int32 → St2 → Prop} {A B : List Nat} {G : Nat → List Nat × List Nat} {u : St2} {c : Nat} {p0 : Int32} (ho : sw_ok A B G u) (hx : p0 = nI c) (hc : c < 4) (hA : A.length < 10)
    (l1 : (G 0).1.length = A.length) (l2 : (G 0).2.length = B.length) (l3 : (G 1).1.length = 2 * A.length) (l4 : (G 1).2.length = 2 * B.length)
    (hp : ∀ (r : Int32) (G' : Nat → List Nat × List Nat) u', sw_ok (A ++ [c]) B G' u' → G' 0 = sw_row 0 (A ++ [c]) B (G 0) → G' 1 = sw_row 1 (A ++ [c]) B (sw_row 1 (A ++ [c]) B (G 1)) → post r u') : wpX_growA post u p0 := by
  obtain ⟨m, n, a1, a2, a3, a4, a5, a6⟩ := u
  subst hx
  obtain ⟨⟨k1, k2⟩, ⟨hm, hn⟩, ⟨k3, k4⟩, k5, k6⟩ := ho
  subst hm
  have hlen : (A ++ [c]).length = A.length + 1 := by simp
  unfold wpX_growA
  dsimp only
  refine sw_badLetter hc ?_
  refine br_t rfl ?_
  refine br_f (?_ : ¬ nI A.length = 10) ⟨pk_in A.length 10 hA, nm_e (nm_r (nI_1 _) ?_)⟩
  · intro z
    exact absurd ((nI_eq (b := 10) (by omega) (by omega)).mp z) (by omega)
  · rw [nI_clamp (by omega)]
    have ho' : sw_ok (A ++ [c]) B G (nI (A.length + 1), n, upd a1 A.length (nI c), a2, a3, a4, a5, a6) := by
      refine ⟨⟨by omega, k2⟩, ⟨by rw [hlen], hn⟩, ⟨fun i hi => ?_, fun i => sw_w9 k4 hc⟩, k5, k6⟩
      rw [hlen] at hi
      rw [sw_wA hi]
      by_cases e : i = A.length
      · rw [e, if_pos rfl, pk_us]
      · rw [if_neg e, pk_un e, k3 i (by omega)]
    have n0 : sw_nA 0 (A ++ [c]) = A.length + 1 := hlen
    have n1 : sw_nA 1 (A ++ [c]) = 2 * (A.length + 1) := by
      show 2 * (A ++ [c]).length = _
      rw [hlen]
    have m0 : sw_nB 0 B = B.length := rfl
    have m1 : sw_nB 1 B = 2 * B.length := rfl
    refine sw_addRow (b := 0) ho' (by omega) (by omega) (by omega) (fun u2 h2 => ?_)
    obtain ⟨m2, n2, c1, c2, c3, c4, c5, c6⟩ := u2
    have g1 : sw_up G 0 (sw_row 0 (A ++ [c]) B (G 0)) 1 = G 1 := sw_upN (by omega)
    refine sw_addRow (b := 1) h2 (by omega) (by rw [g1]; omega) (by rw [g1]; omega) (fun u3 h3 => ?_)
    rw [g1] at h3
    obtain ⟨m3, n3, d1, d2, d3, d4, d5, d6⟩ := u3
    refine sw_addRow (b := 1) h3 (by omega) (by rw [sw_upS, sw_row1]; omega) (by rw [sw_upS, sw_row2]; omega) (fun u4 h4 => ?_)
    rw [sw_upS, sw_upU] at h4
    obtain ⟨m4, n4, e1, e2, e3, e4, e5, e6⟩ := u4
    refine hp _ _ _ h4 ?_ ?_
    · rw [sw_upN (by omega), sw_upS]
    · rw [sw_upS]
theorem sw_growB {post : Int32 → St2 → Prop} {A B : List Nat} {G : Nat → List Nat × List Nat} {u : St2} {c : Nat} {p0 : Int32} (ho : sw_ok A B G u) (hx : p0 = nI c) (hc : c < 4) (hB : B.length < 14)
    (l1 : (G 0).1.length = A.length) (l2 : (G 0).2.length = B.length) (l3 : (G 1).1.length = 2 * A.length) (l4 : (G 1).2.length = 2 * B.length)
    (hp : ∀ (r : Int32) (G' : Nat → List Nat × List Nat) u', sw_ok A (B ++ [c]) G' u' → G' 0 = sw_col 0 A (B ++ [c]) (G 0) → G' 1 = sw_col 1 A (B ++ [c]) (sw_col 1 A (B ++ [c]) (G 1)) → post r u') : wpX_growB post u p0 := by
  obtain ⟨m, n, a1, a2, a3, a4, a5, a6⟩ := u
  subst hx
  obtain ⟨⟨k1, k2⟩, ⟨hm, hn⟩, k5, ⟨k3, k4⟩, k6⟩ := ho
  subst hn
  have hlen : (B ++ [c]).length = B.length + 1 := by simp
  unfold wpX_growB
  dsimp only
  refine sw_badLetter hc ?_
  refine br_t rfl ?_
  refine br_f (?_ : ¬ nI B.length = 14) ⟨pk_in B.length 14 hB, nm_e (nm_r (nI_1 _) ?_)⟩
  · intro z
    exact absurd ((nI_eq (b := 14) (by omega) (by omega)).mp z) (by omega)
  · rw [nI_clamp (by omega)]
    have ho' : sw_ok A (B ++ [c]) G (m, nI (B.length + 1), a1, upd a2 B.length (nI c), a3, a4, a5, a6) := by
      refine ⟨⟨k1, by omega⟩, ⟨hm, by rw [hlen]⟩, k5, ⟨fun i hi => ?_, fun i => sw_w9 k4 hc⟩, k6⟩
      rw [hlen] at hi
      rw [sw_wA hi]
      by_cases e : i = B.length
      · rw [e, if_pos rfl, pk_us]
      · rw [if_neg e, pk_un e, k3 i (by omega)]
    have n0 : sw_nB 0 (B ++ [c]) = B.length + 1 := hlen
    have n1 : sw_nB 1 (B ++ [c]) = 2 * (B.length + 1) := by
      show 2 * (B ++ [c]).length = _
      rw [hlen]
    have m0 : sw_nA 0 A = A.length := rfl
    have m1 : sw_nA 1 A = 2 * A.length := rfl
    refine sw_addColumn (b := 0) ho' (by omega) (by omega) (by omega) (fun u2 h2 => ?_)
    obtain ⟨m2, n2, c1, c2, c3, c4, c5, c6⟩ := u2
    have g1 : sw_up G 0 (sw_col 0 A (B ++ [c]) (G 0)) 1 = G 1 := sw_upN (by omega)
    refine sw_addColumn (b := 1) h2 (by omega) (by rw [g1]; omega) (by rw [g1]; omega) (fun u3 h3 => ?_)
    rw [g1] at h3
    obtain ⟨m3, n3, d1, d2, d3, d4, d5, d6⟩ := u3
    refine sw_addColumn (b := 1) h3 (by omega) (by rw [sw_upS, sw_col1]; omega) (by rw [sw_upS, sw_col2]; omega) (fun u4 h4 => ?_)
    rw [sw_upS, sw_upU] at h4
    obtain ⟨m4, n4, e1, e2, e3, e4, e5, e6⟩ := u4
    refine hp _ _ _ h4 ?_ ?_
    · rw [sw_upN (by omega), sw_upS]
    · rw [sw_upS]
theorem sw_shiftB {post : Int32 → St2 → Prop} {A B : List Nat} {c : Nat} {G : Nat → List Nat × List Nat} {u : St2} (ho : sw_ok A (c :: B) G u)
    (hp : ∀ (G' : Nat → List Nat × List Nat) u', sw_ok A B G' u' → G' 0 = sw_comb 0 A B A.length B.length → G' 1 = sw_comb 1 A B (2 * A.length) (2 * B.length) → post (nI c) u') : wpX_shiftB post u := by
  obtain ⟨m, n, a1, a2, a3, a4, a5, a6⟩ := u
  obtain ⟨⟨k1, k2⟩, ⟨hm, hn⟩, k5, ⟨k3, k4⟩, k6⟩ := ho
  have hl : (c :: B).length = B.length + 1 := rfl
  rw [hl] at k2 hn
  have kc : a2 0 = nI c := k3 0 (by rw [hl]; omega)
  have kB : ∀ j, j < B.length → a2 (j + 1) = nI (B.getD j 9) := fun j hj => k3 (j + 1) (by rw [hl]; omega)
  subst hn
  refine br_f (nI_ne0 (by omega) (by omega)) (nm_r kc (nm_r (nI_pred B.length) ?_))
  refine pk_loop (fun fu j s => wX_shiftB_29 post (nI c) m (nI B.length) fu (nI j) a1 s a3 a4 a5 a6) (fun j s => (∀ i, i < j → s i = nI (B.getD i 9)) ∧ (∀ i, j ≤ i → i < B.length → s (i + 1) = nI (B.getD i 9))) B.length 0 a2 (by omega) ⟨fun i hi => absurd hi (by omega), fun i _ hi => kB i hi⟩ ?_ ?_
  · intro fu s hs
    refine br_t (nI_le (Nat.le_refl _) (by omega)) ?_
    refine sw_combAgain (A := A) (B := B) (G := G) ⟨⟨k1, by omega⟩, ⟨hm, rfl⟩, k5, ⟨hs.1, fun j => k4 (j + 1)⟩, k6⟩ (fun G' u' h' g0 g1 => ?_)
    obtain ⟨m', n', c1, c2, c3, c4, c5, c6⟩ := u'
    exact hp _ _ h' g0 g1
  · intro fu j s hj hs hw
    have e1 : nI j + 1 = nI (j + 1) := nI_1 j
    refine br_f (nI_ge hj (by omega)) ⟨pk_in (j + 1) 14 (by omega) e1, pk_in j 14 (by omega), nm_e (nm_r e1 ?_)⟩
    rw [e1, nI_clamp (by omega), nI_clamp (by omega)]
    refine hw _ ⟨fun i hi => ?_, fun i hi hi2 => ?_⟩
    · by_cases e : i = j
      · rw [e, pk_us]
        exact hs.2 j (Nat.le_refl _) hj
      · rw [pk_un e]
        exact hs.1 i (by omega)
    · rw [pk_un (by omega)]
      exact hs.2 i (by omega) hi2
theorem sw_putA {post : Int32 → St2 → Prop} {A B : List Nat} {a c : Nat} {G : Nat → List Nat × List Nat} {u : St2} {p1 : Int32} (ho : sw_ok (a :: A) B G u) (hx : p1 = nI c) (hc : c < 4)
    (h0 : a = c → ∀ u', sw_ok (a :: A) B G u' → post (nI a) u')
    (h1 : a ≠ c → ∀ (G' : Nat → List Nat × List Nat) u', sw_ok (c :: A) B G' u' → G' 0 = sw_comb 0 (c :: A) B (A.length + 1) B.length → G' 1 = sw_comb 1 (c :: A) B (2 * (A.length + 1)) (2 * B.length) → post (nI a) u') : wpX_putA post u 0 p1 := by
  obtain ⟨m, n, a1, a2, a3, a4, a5, a6⟩ := u
  subst hx
  obtain ⟨⟨k1, k2⟩, ⟨hm, hn⟩, ⟨k3, k4⟩, k5, k6⟩ := ho
  have hl : (a :: A).length = A.length + 1 := rfl
  rw [hl] at k1 hm
  have ka : a1 0 = nI a := k3 0 (by rw [hl]; omega)
  have ka' : a1 (0 : Int32).toNatClampNeg = nI a := ka
  have kA : ∀ j, j < A.length → a1 (j + 1) = nI (A.getD j 9) := fun j hj => k3 (j + 1) (by rw [hl]; omega)
  have a10 : a < 10 := k4 0
  subst hm
  have key : sw_ok (c :: A) B G (nI (A.length + 1), n, upd a1 0 (nI c), a2, a3, a4, a5, a6) := by
    refine ⟨⟨k1, k2⟩, ⟨rfl, hn⟩, ⟨fun i hi => ?_, fun i => ?_⟩, k5, k6⟩
    · cases i with
      | zero => rw [pk_us]; rfl
      | succ i =>
        rw [pk_un (by omega)]
        have hi' : i + 1 < A.length + 1 := hi
        exact kA i (by omega)
    · cases i with
      | zero =>
        show c < 10
        omega
      | succ i => exact k4 (i + 1)
  refine br_f (by decide) (br_f (nI_nle (by omega) (by omega)) (sw_badLetter hc (br_t rfl ⟨pk_in 0 10 (by omega), nm_r ka' ⟨pk_in 0 10 (by omega), nm_e ?_⟩⟩)))
  refine pk_eq a c (fun z => ?_) (fun z => ?_)
  · refine h0 z _ ?_
    rw [z]
    exact key
  · refine sw_combAgain key (fun G' u' h' g0 g1 => ?_)
    obtain ⟨m', n', c1, c2, c3, c4, c5, c6⟩ := u'
    exact h1 z _ _ h' g0 g1
theorem sw_rotated {post : Int32 → St2 → Prop} {A B : List Nat} {G : Nat → List Nat × List Nat} {u : St2} (ho : sw_ok A B G u) (hB : 0 < B.length)
    (hc : ∀ i, i < B.length → sw_cm (sw_comb 2 A B A.length (2 * B.length)) (20 + i) (i + B.length) ≤ B.length)
    (hp : ∀ (G' : Nat → List Nat × List Nat) u', sw_ok A B G' u' → G' 0 = G 0 → G' 1 = G 1 → post (nI (sw_wd (sw_comb 2 A B A.length (2 * B.length)) B.length B.length)) u') : wpX_rotated post u := by
  obtain ⟨m, n, a1, a2, a3, a4, a5, a6⟩ := u
  obtain ⟨hm, hn⟩ := ho.2.1
  have hB14 := ho.1.2
  refine br_f (by rw [hn]; exact nI_ne0 hB (by omega)) ?_
  refine sw_combAll (b := 2) ho (by omega) (Nat.le_refl A.length) (Nat.le_refl (2 * B.length)) hm (by rw [hn, show (2 : Int32) = nI 2 from rfl, pk_mul]) (fun u2 h2 => ?_)
  obtain ⟨m2, n2, c1, c2, c3, c4, c5, c6⟩ := u2
  have hn2 := h2.2.1.2
  refine sw_widestOf (b := 2) B.length B.length h2 (by omega) hn2 hn2 (by omega) (by omega) ?_ ?_
  · rw [sw_upS]
    exact hc
  · rw [sw_upS]
    exact hp _ _ h2 (sw_upN (by omega)) (sw_upN (by omega))
end
section
/-! what the law asks, where no strand from a column ends at a column -/
theorem sw_comW {post : Int32 → Prop} {A B : List Nat} {G : Nat → List Nat × List Nat} {u : St2} {b : Nat} {p1 p2 : Int32} (i j : Nat) (ho : sw_ok A B G u) (hb : b < 3) (hD : ∀ k, k < (G b).2.length → (G b).2.getD k 0 < 20) (hij : i ≤ j) (hj : j ≤ (G b).2.length) (hx : p1 = nI i) (hy : p2 = nI j)
    (hp : post (nI (j - i))) : wpX_common post u (nI b) p1 p2 := by
  have hl := (ho.2.2.2.2 b hb).1.2
  refine sw_common (20 + i) j ho hb (hx.trans (sw_fcol i)) hy (by omega) (by omega) ?_
  rw [sw_cm0 (fun k hk _ => Nat.lt_of_lt_of_le (hD k hk) (by omega)) hj, sw_val (by omega)]
  exact hp
theorem sw_bsGood {post : Int32 → Prop} {u : St2} {n : Int32} {i j k : Nat} (hij : i ≤ j) (hj : j ≤ k) (hk : k < 1000) (hn : n = nI k) (hp : post 0) : wpX_badStretch post u (nI i) (nI j) n := by
  obtain ⟨m, n', a1, a2, a3, a4, a5, a6⟩ := u
  subst hn
  exact br_f (nI_pos (by omega)) (br_f (nI_nlt hij (by omega)) (br_t (nI_le hj (by omega)) hp))
theorem sw_bsBad {post : Int32 → Prop} {u : St2} {x y n : Int32} (h : x < 0 ∨ y < x ∨ ¬ y ≤ n) (hp : post 1) : wpX_badStretch post u x y n := by
  obtain ⟨m, n', a1, a2, a3, a4, a5, a6⟩ := u
  refine br_c (fun _ => hp) (fun z1 => br_c (fun _ => hp) (fun z2 => br_f ?_ hp))
  rcases h with h | h | h
  · exact absurd h z1
  · exact absurd h z2
  · exact h
theorem sw_commonB {post : Int32 → Prop} {A B : List Nat} {G : Nat → List Nat × List Nat} {u : St2} {i j : Nat} (ho : sw_ok A B G u) (hl : (G 0).2.length = B.length) (hD : ∀ k, k < (G 0).2.length → (G 0).2.getD k 0 < 20) (hij : i ≤ j) (hj : j ≤ B.length) (hp : post (nI (j - i))) : wpX_commonB post u (nI i) (nI j) := by
  obtain ⟨m, n, a1, a2, a3, a4, a5, a6⟩ := u
  have hn := ho.2.1.2
  have h14 := ho.1.2
  unfold wpX_commonB
  dsimp only
  refine sw_bsGood hij hj (by omega) hn ?_
  exact br_t rfl (sw_comW (b := 0) i j ho (by omega) hD hij (by omega) rfl rfl hp)
theorem sw_commonBx {post : Int32 → Prop} {u : St2} {x y : Int32} (h : x < 0 ∨ y < x ∨ ¬ y ≤ u.2.1) (hp : post (-1)) : wpX_commonB post u x y := by
  obtain ⟨m, n, a1, a2, a3, a4, a5, a6⟩ := u
  unfold wpX_commonB
  dsimp only
  refine sw_bsBad h ?_
  exact br_f (by decide) hp
theorem sw_changes {post : Int32 → Prop} {A B : List Nat} {G : Nat → List Nat × List Nat} {u : St2} {p0 p1 : Int32} (i j : Nat) (ho : sw_ok A B G u) (hA : A.length = 5) (hl : (G 1).2.length = 2 * B.length) (hD : ∀ k, k < (G 1).2.length → (G 1).2.getD k 0 < 20) (hij : i ≤ j) (hj : j ≤ B.length) (hB : B.length ≤ 5) (hx : p0 = nI i) (hy : p1 = nI j)
    (hp : post (nI (5 - (j - i)))) : wpX_changes post u p0 p1 := by
  obtain ⟨m, n, a1, a2, a3, a4, a5, a6⟩ := u
  have hm : m = nI 5 := hA ▸ ho.2.1.1
  subst hx hy
  unfold wpX_changes
  dsimp only
  refine sw_comW (b := 1) (2 * i) (2 * j) ho (by omega) hD (by omega) (by omega) ?_ ?_ ?_
  · rw [show (2 : Int32) = nI 2 from rfl, pk_mul]
  · rw [show (2 : Int32) = nI 2 from rfl, pk_mul]
  · rw [hm, nI_add, pk_sub (by omega), pk_sub (by omega), show 5 + j - i - (2 * j - 2 * i) = 5 - (j - i) by omega]
    exact hp
theorem sw_changesB {post : Int32 → Prop} {A B : List Nat} {G : Nat → List Nat × List Nat} {u : St2} {i j : Nat} (ho : sw_ok A B G u) (hA : A.length = 5) (hl : (G 1).2.length = 2 * B.length) (hD : ∀ k, k < (G 1).2.length → (G 1).2.getD k 0 < 20) (hij : i ≤ j) (hj : j ≤ B.length) (hB : B.length ≤ 5)
    (hp : post (nI (5 - (j - i)))) : wpX_changesB post u (nI i) (nI j) := by
  obtain ⟨m, n, a1, a2, a3, a4, a5, a6⟩ := u
  have hn := ho.2.1.2
  unfold wpX_changesB
  dsimp only
  refine sw_bsGood hij hj (by omega) hn ?_
  refine br_t rfl ?_
  exact sw_changes i j ho hA hl hD hij hj hB rfl rfl hp
theorem sw_changesBx {post : Int32 → Prop} {u : St2} {x y : Int32} (h : x < 0 ∨ y < x ∨ ¬ y ≤ u.2.1) (hp : post (-1)) : wpX_changesB post u x y := by
  obtain ⟨m, n, a1, a2, a3, a4, a5, a6⟩ := u
  unfold wpX_changesB
  dsimp only
  refine sw_bsBad h ?_
  exact br_f (by decide) hp
/-- stretches of the row word -/
theorem sw_rv : ∀ j, j < 6 → ∀ i, i < j + 1 → (((nI (10 - j) - sw_f (20 - i)) - nI (5 - j + i)) - nI i) - nI (5 - j) = nI (j - i) := by decide +kernel
theorem sw_commonA {post : Int32 → Prop} {A B : List Nat} {G : Nat → List Nat × List Nat} {u : St2} {i j : Nat} (ho : sw_ok A B G u) (hA : A.length = 5) (l1 : (G 0).1.length = 5) (l2 : (G 0).2.length = 5) (hij : i ≤ j) (hj : j ≤ 5)
    (hc : sw_cm (G 0) (20 - i) (10 - j) = 5 - j + i) (hp : post (nI (j - i))) : wpX_commonA post u (nI i) (nI j) := by
  obtain ⟨m, n, a1, a2, a3, a4, a5, a6⟩ := u
  have hm := ho.2.1.1
  obtain ⟨_, ⟨e3, e4⟩, _⟩ := ho.2.2.2.2 0 (by omega)
  have x3 : a3 (0 : Int32).toNatClampNeg - nI j = nI (5 - j) := by
    show a3 0 - nI j = _
    rw [e3, l1, pk_sub hj]
  have x4 : a4 (0 : Int32).toNatClampNeg + nI (5 - j) = nI (10 - j) := by
    show a4 0 + nI (5 - j) = _
    rw [e4, l2, nI_add, show 5 + (5 - j) = 10 - j by omega]
  unfold wpX_commonA
  dsimp only
  refine sw_bsGood hij (by omega) (by omega) hm ?_
  refine br_t rfl ⟨pk_in 0 3 (by omega), nm_r x3 ⟨pk_in 0 3 (by omega), ?_⟩⟩
  refine sw_common (b := 0) (20 - i) (10 - j) ho (by omega) (sw_fneg i (by omega)) x4 (by omega) (by omega) ?_
  rw [hc]
  exact ek_v (sw_rv j (by omega) i (by omega)) hp
theorem sw_commonAx {post : Int32 → Prop} {u : St2} {x y : Int32} (h : x < 0 ∨ y < x ∨ ¬ y ≤ u.1) (hp : post (-1)) : wpX_commonA post u x y := by
  obtain ⟨m, n, a1, a2, a3, a4, a5, a6⟩ := u
  unfold wpX_commonA
  dsimp only
  refine sw_bsBad h ?_
  exact br_f (by decide) hp
/-- nearestAt: the first stretch is best that is as long as B -/
def sw_nx (j : Nat) : Int32 := if j = 0 then 100 else nI (6 - j)
def sw_ny (j : Nat) : Int32 := if j = 0 then 0 else nI (j - 1)
def sw_ox (n i : Nat) : Int32 := if i = 0 then 100 else nI (5 - n)
def sw_oy (n i : Nat) : Int32 := if i = 0 then 0 else nI n
theorem sw_nxle : ∀ j, j < 6 → ¬ sw_nx j ≤ nI (5 - j) := by decide +kernel
theorem sw_nearestAt {post : Int32 → Prop} {A B : List Nat} {G : Nat → List Nat × List Nat} {u : St2} (ho : sw_ok A B G u) (hA : A.length = 5) (hl : (G 1).2.length = 2 * B.length) (hD : ∀ k, k < (G 1).2.length → (G 1).2.getD k 0 < 20) (hB : B.length ≤ 5)
    (hp : post (nI B.length)) : wpX_nearestAt post u := by
  obtain ⟨m, n, a1, a2, a3, a4, a5, a6⟩ := u
  have hn : n = nI B.length := ho.2.1.2
  subst hn
  refine pk_loop (σ := Unit) (fun fu i _ => wX_nearestAt_7 post m (nI B.length) a1 a2 a3 a4 a5 a6 fu (sw_ox B.length i) (sw_oy B.length i) (nI i)) (fun _ _ => True) (B.length + 1) 0 () (by omega) trivial ?_ ?_
  · intro fu _ _
    exact br_t (nI_lt (by omega) (by omega)) hp
  · intro fu i _ hi _ hw
    have hw' := hw () trivial
    refine br_f (nI_nlt (by omega) (by omega)) ?_
    by_cases c : i = 0
    · subst c
      refine pk_loop (σ := Unit) (fun f2 j _ => wX_nearestAt_18 post (wX_nearestAt_7 post m (nI B.length) a1 a2 a3 a4 a5 a6 fu) 0 m (nI B.length) a1 a2 a3 a4 a5 a6 f2 (sw_nx j) (sw_ny j) (nI j)) (fun _ _ => True) (B.length + 1) 0 () (by omega) trivial ?_ ?_
      · intro f2 _ _
        refine br_t (nI_lt (by omega) (by omega)) (nm_r (nI_1 0) ?_)
        have e1 : sw_nx (B.length + 1) = sw_ox B.length (0 + 1) := by
          show nI (6 - (B.length + 1)) = nI (5 - B.length)
          rw [show 6 - (B.length + 1) = 5 - B.length by omega]
        have e2 : sw_ny (B.length + 1) = sw_oy B.length (0 + 1) := rfl
        rw [e1, e2]
        exact hw'
      · intro f2 j _ hj _ hv
        have hv' := hv () trivial
        refine br_f (nI_nlt (by omega) (by omega)) ?_
        refine sw_changes 0 j ho hA hl hD (by omega) (by omega) hB rfl rfl ?_
        refine br_f (sw_nxle j (by omega)) (nm_r (e' := nI j) ?_ (nm_r (nI_1 j) ?_))
        · rw [show (16 : Int32) = nI 16 from rfl, show (0 : Int32) = nI 0 from rfl, pk_mul, nI_add, show 16 * 0 + j = j by omega]
        · have e1 : sw_nx (j + 1) = nI (5 - (j - 0)) := by
            show nI (6 - (j + 1)) = _
            rw [show 6 - (j + 1) = 5 - (j - 0) by omega]
          have e2 : sw_ny (j + 1) = nI j := rfl
          rw [e1, e2] at hv'
          exact hv'
    · have o1 : ∀ k, k ≠ 0 → sw_ox B.length k = nI (5 - B.length) := fun k hk => if_neg hk
      have o2 : ∀ k, k ≠ 0 → sw_oy B.length k = nI B.length := fun k hk => if_neg hk
      rw [o1 _ (by omega), o2 _ (by omega)] at hw'
      rw [o1 i c, o2 i c]
      refine pk_loop (σ := Unit) (fun f2 j _ => wX_nearestAt_18 post (wX_nearestAt_7 post m (nI B.length) a1 a2 a3 a4 a5 a6 fu) (nI i) m (nI B.length) a1 a2 a3 a4 a5 a6 f2 (nI (5 - B.length)) (nI B.length) (nI j)) (fun j _ => i ≤ j) (B.length + 1) i () (by omega) (Nat.le_refl i) ?_ ?_
      · intro f2 _ _
        exact br_t (nI_lt (by omega) (by omega)) (nm_r (nI_1 i) hw')
      · intro f2 j _ hj hij hv
        have hv' := hv () (by omega)
        refine br_f (nI_nlt (by omega) (by omega)) ?_
        refine sw_changes i j ho hA hl hD hij (by omega) hB rfl rfl ?_
        exact br_t (nI_le (by omega) (by omega)) (nm_r (nI_1 j) hv')
theorem sw_nearest {post : Int32 → Prop} {A B : List Nat} {G : Nat → List Nat × List Nat} {u : St2} (ho : sw_ok A B G u) (hA : A.length = 5) (hl : (G 1).2.length = 2 * B.length) (hD : ∀ k, k < (G 1).2.length → (G 1).2.getD k 0 < 20) (hB : B.length ≤ 5)
    (hp : post (nI (5 - B.length))) : wpX_nearest post u := by
  obtain ⟨m, n, a1, a2, a3, a4, a5, a6⟩ := u
  have e1 : nI B.length >>> ((4 : Int32) &&& 31) = nI 0 := by
    rw [pk_shrN (n := B.length) (by omega) _ 4 (by decide), show B.length / 2 ^ 4 = 0 by omega]
  have e2 : nI B.length &&& 15 = nI B.length := by
    rw [pk_andN (n := B.length) (by omega) 4 (by decide), show B.length % 2 ^ 4 = B.length by omega]
  unfold wpX_nearest
  dsimp only
  refine sw_nearestAt ho hA hl hD hB ?_
  exact sw_changes 0 B.length ho hA hl hD (by omega) (by omega) hB e1 e2 hp
theorem sw_wd_full {P : List Nat × List Nat} {w k : Nat} (hk : 0 < k) (h : ∀ i, i < k → sw_cm P (20 + i) (i + w) = 0) : sw_wd P w k = w := by
  cases k with
  | zero => exact absurd hk (by omega)
  | succ k =>
    show Nat.max (sw_wd P w k) (w - sw_cm P (20 + k) (k + w)) = w
    rw [h k (by omega)]
    exact Nat.max_eq_right (sw_wd_le P w k)
theorem sw_wide {post : Int32 → Prop} {A B : List Nat} {G : Nat → List Nat × List Nat} {u : St2} {p1 p2 : Int32} (w : Nat) (ho : sw_ok A B G u) (hl : (G 0).2.length = B.length) (hD : ∀ k, k < (G 0).2.length → (G 0).2.getD k 0 < 20) (hw : w ≤ B.length) (hx : p1 = nI w) (hy : p2 = (nI B.length - nI w) + 1) (hp : post (nI w)) : wpX_widestOf post u 0 p1 p2 := by
  have h14 := (ho.2.2.2.2 0 (by omega)).1.2
  have hy' : p2 = nI (B.length - w + 1) := by rw [hy, pk_sub hw, nI_1]
  have hc : ∀ i, i < B.length - w + 1 → sw_cm (G 0) (20 + i) (i + w) = 0 := fun i hi => sw_cm0 (fun k hk _ => Nat.lt_of_lt_of_le (hD k hk) (by omega)) (by omega)
  refine sw_widestOf (b := 0) w (B.length - w + 1) ho (by omega) hx hy' (by omega) (by omega) (fun i hi => ?_) ?_
  · rw [hc i hi]
    omega
  · rw [sw_wd_full (by omega) hc]
    exact hp
theorem sw_shortest {post : Int32 → Prop} {A B : List Nat} {G : Nat → List Nat × List Nat} {u : St2} {x : Int32} (q : Nat) (ho : sw_ok A B G u) (hB : B.length = 5) (hl : (G 0).2.length = B.length) (hD : ∀ k, k < (G 0).2.length → (G 0).2.getD k 0 < 20) (hq : q ≤ 5) (h1 : ∀ w, w < q → nI w < x) (h2 : ¬ nI q < x) (hp : post (nI q)) : wpX_shortest post u x := by
  obtain ⟨m, n, a1, a2, a3, a4, a5, a6⟩ := u
  have hn : n = nI B.length := ho.2.1.2
  subst hn
  refine pk_loop (σ := Unit) (fun fu w _ => wX_shortest_2 post x m (nI B.length) a1 a2 a3 a4 a5 a6 fu (nI w)) (fun _ _ => True) q 0 () (by omega) trivial ?_ ?_
  · intro fu _ _
    refine br_f (nI_nlt (by omega) (by omega)) ?_
    refine sw_wide q ho hl hD (by omega) rfl rfl ?_
    exact br_f h2 hp
  · intro fu w _ hw _ hv
    refine br_f (nI_nlt (by omega) (by omega)) ?_
    refine sw_wide w ho hl hD (by omega) rfl rfl ?_
    exact br_t (h1 w hw) (nm_r (nI_1 w) (hv () trivial))
theorem sw_shortestN {post : Int32 → Prop} {A B : List Nat} {G : Nat → List Nat × List Nat} {u : St2} {x : Int32} (ho : sw_ok A B G u) (hB : B.length = 5) (hl : (G 0).2.length = B.length) (hD : ∀ k, k < (G 0).2.length → (G 0).2.getD k 0 < 20) (h1 : ∀ w, w < 6 → nI w < x) (hp : post (-4)) : wpX_shortest post u x := by
  obtain ⟨m, n, a1, a2, a3, a4, a5, a6⟩ := u
  have hn : n = nI B.length := ho.2.1.2
  subst hn
  refine pk_loop (σ := Unit) (fun fu w _ => wX_shortest_2 post x m (nI B.length) a1 a2 a3 a4 a5 a6 fu (nI w)) (fun _ _ => True) 6 0 () (by omega) trivial ?_ ?_
  · intro fu _ _
    exact br_t (nI_lt (by omega) (by omega)) hp
  · intro fu w _ hw _ hv
    refine br_f (nI_nlt (by omega) (by omega)) ?_
    refine sw_wide w ho hl hD (by omega) rfl rfl ?_
    exact br_t (h1 w hw) (nm_r (nI_1 w) (hv () trivial))
theorem sw_widest {post : Int32 → Prop} {A B : List Nat} {G : Nat → List Nat × List Nat} {u : St2} {q : Nat} (ho : sw_ok A B G u) (hl : (G 0).2.length = B.length) (hD : ∀ k, k < (G 0).2.length → (G 0).2.getD k 0 < 20) (hq : q ≤ B.length) (hp : post (nI q)) : wpX_widest post u (nI q) := by
  obtain ⟨m, n, a1, a2, a3, a4, a5, a6⟩ := u
  have hn : n = nI B.length := ho.2.1.2
  have h14 := ho.1.2
  subst hn
  exact br_f (nI_pos (by omega)) (br_t (nI_le hq (by omega)) (sw_wide q ho hl hD hq rfl rfl hp))
theorem sw_widestN {post : Int32 → Prop} {u : St2} {x : Int32} (h : x < 0 ∨ ¬ x ≤ u.2.1) (hp : post (-4)) : wpX_widest post u x := by
  obtain ⟨m, n, a1, a2, a3, a4, a5, a6⟩ := u
  refine br_c (fun _ => hp) (fun z => br_f ?_ hp)
  rcases h with h | h
  · exact absurd h z
  · exact h
/-- tight: every stretch counts -/
def sw_T : Nat → Nat
  | 0 => 6
  | i + 1 => sw_T i + (5 - i)
theorem sw_tight {post : Int32 → Prop} {A B : List Nat} {G : Nat → List Nat × List Nat} {u : St2} (ho : sw_ok A B G u) (hB : B.length = 5) (hl : (G 0).2.length = B.length) (hD : ∀ k, k < (G 0).2.length → (G 0).2.getD k 0 < 20) (hp : post 21) : wpX_tight post u := by
  obtain ⟨m, n, a1, a2, a3, a4, a5, a6⟩ := u
  have hn : n = nI 5 := hB ▸ ho.2.1.2
  rw [hB] at hl
  subst hn
  refine nm_r (nI_1 5) ?_
  refine pk_loop (σ := Unit) (fun fu i _ => wX_tight_9 post m (nI 5) a1 a2 a3 a4 a5 a6 fu (nI (sw_T i)) (nI i)) (fun _ _ => True) 5 0 () (by omega) trivial ?_ ?_
  · intro fu _ _
    exact br_t (nI_le (by omega) (by omega)) hp
  · intro fu i _ hi _ hw
    have hw' : wX_tight_9 post m (nI 5) a1 a2 a3 a4 a5 a6 fu (nI (sw_T i + (5 - i))) (nI (i + 1)) := hw () trivial
    refine br_f (nI_ge hi (by omega)) (nm_r (nI_1 i) ?_)
    have hz : nI (sw_T i) = nI (sw_T i + (i + 1 - (i + 1))) := by
      rw [Nat.sub_self, Nat.add_zero]
    rw [hz]
    refine pk_loop (σ := Unit) (fun f2 j _ => wX_tight_21 post (wX_tight_9 post m (nI 5) a1 a2 a3 a4 a5 a6 fu) (nI i) m (nI 5) a1 a2 a3 a4 a5 a6 f2 (nI (sw_T i + (j - (i + 1)))) (nI j)) (fun j _ => i + 1 ≤ j) 6 (i + 1) () (by omega) (Nat.le_refl _) ?_ ?_
    · intro f2 _ _
      refine br_t (nI_lt (by omega) (by omega)) (nm_r (nI_1 i) ?_)
      rw [show 6 - (i + 1) = 5 - i by omega]
      exact hw'
    · intro f2 j _ hj hij hv
      have hv' := hv () (by omega)
      have ej : nI j - 1 = nI (j - 1) := pk_sub (b := 1) (by omega)
      refine br_f (nI_nlt (by omega) (by omega)) ?_
      refine sw_comW (b := 0) i j ho (by omega) hD (by omega) (by omega) rfl rfl ?_
      refine sw_comW (b := 0) i (j - 1) ho (by omega) hD (by omega) (by omega) rfl ej ?_
      refine sw_comW (b := 0) (i + 1) j ho (by omega) hD (by omega) (by omega) (nI_1 i) rfl ?_
      refine br_f (nI_ge (by omega) (by omega)) (br_f (nI_ge (by omega) (by omega)) (nm_r (nI_1 _) (nm_r (nI_1 j) ?_)))
      rw [show sw_T i + (j - (i + 1)) + 1 = sw_T i + (j + 1 - (i + 1)) by omega]
      exact hv'
/-- the ends -/
theorem sw_commonEnd {post : Int32 → Prop} {A B : List Nat} {G : Nat → List Nat × List Nat} {u : St2} (ho : sw_ok A B G u) (hA : A.length = 5) (hB : 4 ≤ B.length) (hc : sw_cm (G 0) 19 4 = 0) (hp : post 4) : wpX_commonEnd post u 4 4 := by
  obtain ⟨m, n, a1, a2, a3, a4, a5, a6⟩ := u
  have hm : m = nI 5 := hA ▸ ho.2.1.1
  have hn := ho.2.1.2
  have h14 := ho.1.2
  subst hm hn
  unfold wpX_commonEnd
  dsimp only
  have hbc : ∀ Q : Int32 → Prop, Q 0 → wpX_badCounts Q (nI 5, nI B.length, a1, a2, a3, a4, a5, a6) 4 4 := fun Q hQ =>
    br_f (by decide) (br_f (by decide) (br_f (by decide) (br_t (nI_le (a := 4) hB (by omega)) hQ)))
  refine hbc _ ?_
  refine br_t rfl (nm_e ?_)
  refine sw_common (b := 0) 19 4 ho (by omega) (by decide) rfl (by omega) (by omega) ?_
  rw [hc]
  exact ek_v (by decide) hp
theorem sw_commonBegin {post : Int32 → Prop} {A B : List Nat} {G : Nat → List Nat × List Nat} {u : St2} (ho : sw_ok A B G u) (hA : A.length = 5) (hB : B.length = 4) (hc : sw_cm (G 0) 24 8 = 0) (hp : post 0) : wpX_commonBegin post u 1 0 := by
  obtain ⟨m, n, a1, a2, a3, a4, a5, a6⟩ := u
  have hm : m = nI 5 := hA ▸ ho.2.1.1
  have hn : n = nI 4 := hB ▸ ho.2.1.2
  subst hm hn
  unfold wpX_commonBegin
  dsimp only
  have hbc : ∀ Q : Int32 → Prop, Q 0 → wpX_badCounts Q (nI 5, nI 4, a1, a2, a3, a4, a5, a6) 1 0 := fun Q hQ =>
    br_f (by decide) (br_f (by decide) (br_f (by decide) (br_t (by decide) hQ)))
  refine hbc _ ?_
  refine br_t rfl (nm_e ?_)
  refine sw_common (b := 0) 24 8 ho (by omega) (by decide) (by decide) (by omega) (by omega) ?_
  rw [hc]
  exact ek_v (by decide) hp
theorem sw_changesA {post : Int32 → Prop} {A B : List Nat} {G : Nat → List Nat × List Nat} {u : St2} (ho : sw_ok A B G u) (hA : A.length = 5) (hB : B.length = 5) (l1 : (G 1).1.length = 10) (l2 : (G 1).2.length = 10) (hc : sw_cm (G 1) 18 10 = 2) (hp : post 1) : wpX_changesA post u 1 5 := by
  obtain ⟨m, n, a1, a2, a3, a4, a5, a6⟩ := u
  have hm : m = nI 5 := hA ▸ ho.2.1.1
  have hn : n = nI 5 := hB ▸ ho.2.1.2
  obtain ⟨_, ⟨e3, e4⟩, _⟩ := ho.2.2.2.2 1 (by omega)
  rw [l1] at e3
  rw [l2] at e4
  have x3 : a3 (1 : Int32).toNatClampNeg - 2 * 5 = 0 := by
    show a3 1 - 2 * 5 = 0
    rw [e3]
    decide
  have x4 : a4 (1 : Int32).toNatClampNeg + 0 = nI 10 := by
    show a4 1 + 0 = nI 10
    rw [e4]
    decide
  subst hm hn
  unfold wpX_changesA
  dsimp only
  refine sw_bsGood (i := 1) (j := 5) (k := 5) (by omega) (by omega) (by omega) rfl ?_
  refine br_t rfl ⟨pk_in 1 3 (by omega), nm_r x3 ⟨pk_in 1 3 (by omega), ?_⟩⟩
  refine sw_common (b := 1) 18 10 ho (by omega) (by decide) x4 (by omega) (by omega) ?_
  rw [hc]
  exact ek_v (by decide) hp
end
section
/-! the law -/
theorem sw_ltF {n : Nat} : ∀ {l : List Nat}, sw_lt n l = true → ∀ k, k < l.length → l.getD k 0 < n := by
  intro l
  induction l with
  | nil => intro _ k hk; exact absurd hk (by simp)
  | cons d l ih =>
    intro h k hk
    have h' : (Nat.blt d n && sw_lt n l) = true := h
    rw [Bool.and_eq_true] at h'
    cases k with
    | zero => exact Nat.le_of_ble_eq_true h'.1
    | succ k => exact ih h'.2 k (Nat.lt_of_succ_lt_succ hk)
theorem sw_alF {p : Nat → Bool} : ∀ {k : Nat}, sw_al p k = true → ∀ i, i < k → p i = true := by
  intro k
  induction k with
  | zero => intro _ i hi; exact absurd hi (by omega)
  | succ k ih =>
    intro h i hi
    have h' : (p k && sw_al p k) = true := h
    rw [Bool.and_eq_true] at h'
    by_cases e : i = k
    · rw [e]; exact h'.1
    · exact ih h'.2 i (by omega)
theorem sw_krF {P : List Nat × List Nat} {g : Nat} (h : sw_kr P g = true) : (∀ i, i < 5 → sw_cm P (20 + i) (i + 5) ≤ 5) ∧ g ≤ sw_wd P 5 5 := by
  unfold sw_kr at h
  rw [Bool.and_eq_true] at h
  exact ⟨fun i hi => Nat.le_of_ble_eq_true (sw_alF h.1 i hi), Nat.le_of_ble_eq_true h.2⟩
theorem sw_kAF {P : List Nat × List Nat} (h : sw_kA P = true) : ∀ i j, i ≤ j → j ≤ 5 → sw_cm P (20 - i) (10 - j) = 5 - j + i := by
  intro i j hij hj
  have t := sw_alF h j (by omega)
  exact Nat.eq_of_beq_eq_true (sw_alF t i (by omega))
theorem sw_keF {P Q : List Nat × List Nat} (h : sw_ke P Q = true) : sw_cm P 19 4 = 0 ∧ sw_cm P 20 5 ≤ 1 ∧ sw_cm Q 18 10 = 2 := by
  unfold sw_ke at h
  rw [Bool.and_eq_true, Bool.and_eq_true] at h
  exact ⟨Nat.eq_of_beq_eq_true h.1.1, Nat.le_of_ble_eq_true h.1.2, Nat.eq_of_beq_eq_true h.2⟩
theorem sw_F0L (v w x y z : Nat) : (sw_F0 v w x y z).1.length = 5 ∧ (sw_F0 v w x y z).2.length = 5 := by
  unfold sw_F0 sw_q0
  simp only [sw_col1, sw_col2, sw_row1, sw_row2]
  exact ⟨rfl, rfl⟩
theorem sw_F1L (v w x y z : Nat) : (sw_F1 v w x y z).1.length = 10 ∧ (sw_F1 v w x y z).2.length = 10 := by
  unfold sw_F1 sw_q1
  simp only [sw_col1, sw_col2, sw_row1, sw_row2]
  exact ⟨rfl, rfl⟩
/-- the facts of the first state -/
theorem sw_fact1 {v w x y z : Nat} (hv : v < 4) (hw : w < 4) (hx : x < 4) (hy : y < 4) (hz : z < 4) : (∀ k, k < (sw_F0 v w x y z).2.length → (sw_F0 v w x y z).2.getD k 0 < 20) ∧ (∀ k, k < (sw_F1 v w x y z).2.length → (sw_F1 v w x y z).2.getD k 0 < 20) ∧
    (∀ i j, i ≤ j → j ≤ 5 → sw_cm (sw_F0 v w x y z) (20 - i) (10 - j) = 5 - j + i) ∧ (∀ i, i < 5 → sw_cm (sw_comb 2 [v, w, x, y, z] [v, w, x, y, z] 5 10) (20 + i) (i + 5) ≤ 5) ∧ sw_wd (sw_comb 2 [v, w, x, y, z] [v, w, x, y, z] 5 10) 5 5 = 5 := by
  have k := sw_t1 hv hw hx hy hz
  unfold sw_k1 at k
  rw [Bool.and_eq_true, Bool.and_eq_true, Bool.and_eq_true] at k
  obtain ⟨r1, r2⟩ := sw_krF k.2
  exact ⟨sw_ltF k.1.1.1, sw_ltF k.1.1.2, sw_kAF k.1.2, r1, Nat.le_antisymm (sw_wd_le _ _ _) r2⟩
theorem sw_putA2 {post : Int32 → St2 → Prop} {A B : List Nat} {a c : Nat} {G : Nat → List Nat × List Nat} {u : St2} {p1 : Int32} (ho : sw_ok (a :: A) B G u) (hx : p1 = nI c) (hc : c < 4)
    (h : ∀ (G' : Nat → List Nat × List Nat) u', sw_ok (c :: A) B G' u' → ((a = c ∧ G' 0 = G 0 ∧ G' 1 = G 1) ∨ (G' 0 = sw_comb 0 (c :: A) B (A.length + 1) B.length ∧ G' 1 = sw_comb 1 (c :: A) B (2 * (A.length + 1)) (2 * B.length))) → post (nI a) u') : wpX_putA post u 0 p1 :=
  sw_putA ho hx hc (fun e u' h' => h G u' (e ▸ h') (Or.inl ⟨e, rfl, rfl⟩)) (fun _ G' u' h' g0 g1 => h G' u' h' (Or.inr ⟨g0, g1⟩))
theorem sw_commonB5 {post : Int32 → Prop} {A B : List Nat} {G : Nat → List Nat × List Nat} {u : St2} (ho : sw_ok A B G u) (hB : B.length = 5) (hc : sw_cm (G 0) 20 5 ≤ 1) (hp : ∀ c, c ≤ 1 → post (nI (5 - c))) : wpX_commonB post u 0 5 := by
  obtain ⟨m, n, a1, a2, a3, a4, a5, a6⟩ := u
  have hn := ho.2.1.2
  unfold wpX_commonB
  dsimp only
  refine sw_bsGood (i := 0) (j := 5) (k := B.length) (by omega) (by omega) (by omega) hn ?_
  refine br_t rfl ?_
  refine sw_common (b := 0) 20 5 ho (by omega) (by decide) rfl (by omega) (by omega) ?_
  have e : (nI 5 - sw_f 20) - nI (sw_cm (G 0) 20 5) = nI (5 - sw_cm (G 0) 20 5) := sw_val (i := 0) (by omega)
  rw [e]
  exact hp _ hc
theorem sw_L416 {post : Int32 → St0 → Prop} {mc ms kc ks : Nat} {z0 z1 : Int32} {A B : List Nat} {G : Nat → List Nat × List Nat} {m n : Int32} {a1 a2 a3 a4 a5 a6 : Nat → Int32} (ho : sw_ok A B G (m, n, a1, a2, a3, a4, a5, a6)) (hA : A.length = 5) (hB : B.length = 5) (l1 : (G 1).1.length = 10) (l2 : (G 1).2.length = 10) (hc : sw_cm (G 1) 18 10 = 2) (h : ¬ z1 < z0) (hp : post 1 ()) : wL_lawOf_416 post mc ms z0 z1 kc ks m n a1 a2 a3 a4 a5 a6 := by
  unfold wL_lawOf_416
  refine br_f h ?_
  refine sw_changesA ho hA hB l1 l2 hc ?_
  exact br_t rfl hp
theorem sw_L324 {post : Int32 → St0 → Prop} {mc ms kc ks : Nat} {x4 x8 : Int32} {v w x y z : Nat} (hv : v < 4) (hw : w < 4) (hx : x < 4) (hy : y < 4) (hz : z < 4) {e : Nat} (he : e < 4) {G : Nat → List Nat × List Nat} {m n : Int32} {a1 a2 a3 a4 a5 a6 : Nat → Int32} (h8 : x8 = nI v) (h4 : x4 &&& 3 = nI e) (ho : sw_ok [v, w, x, y, z] [w, x, y, z] G (m, n, a1, a2, a3, a4, a5, a6)) (g0 : G 0 = sw_H0 v w x y z) (g1 : G 1 = sw_H1 v w x y z) (hp : post 1 ()) : wL_lawOf_324 post mc ms x4 x8 1 kc ks m n a1 a2 a3 a4 a5 a6 := by
  subst h8
  have c0 : (sw_H0 v w x y z).1.length = 5 ∧ (sw_H0 v w x y z).2.length = 4 := sw_combL 0 [v, w, x, y, z] [w, x, y, z] 5 4
  have c1 : (sw_H1 v w x y z).1.length = 10 ∧ (sw_H1 v w x y z).2.length = 8 := sw_combL 1 [v, w, x, y, z] [w, x, y, z] 10 8
  have k3 := sw_t3 hv hw hx hy hz
  unfold sw_k3 at k3
  rw [Bool.and_eq_true] at k3
  obtain ⟨r1, r2⟩ := sw_krF k3.1
  have e5 : nI (sw_wd (sw_comb 2 [v, w, x, y, z] [w, x, y, z, v] 5 10) 5 5) = 5 := congrArg nI (Nat.le_antisymm (sw_wd_le _ _ _) r2)
  have k4 := sw_t4 hv hw hx hy hz he
  unfold sw_k4 at k4
  rw [Bool.and_eq_true] at k4
  obtain ⟨r3, r4⟩ := sw_krF k4.1
  unfold wL_lawOf_324
  refine sw_growB (c := v) ho rfl hv (by simp) (by rw [g0]; exact c0.1) (by rw [g0]; exact c0.2) (by rw [g1]; exact c1.1) (by rw [g1]; exact c1.2) (fun r G2 u2 h2 q0 q1 => ?_)
  obtain ⟨m2, n2, b1, b2, b3, b4, b5, b6⟩ := u2
  have h2' : sw_ok [v, w, x, y, z] [w, x, y, z, v] G2 (m2, n2, b1, b2, b3, b4, b5, b6) := h2
  have q0' : G2 0 = sw_J0 v w x y z := by rw [q0, g0]; rfl
  have q1' : G2 1 = sw_J1 v w x y z := by rw [q1, g1]; rfl
  refine sw_rotated h2' (by simp) r1 (fun G3 u3 h3 p0 p1 => ?_)
  obtain ⟨m3, n3, c1, c2, c3, c4, c5, c6⟩ := u3
  refine sw_putA2 (a := v) (A := [w, x, y, z]) (c := e) h3 h4 he (fun G4 u4 h4' hh => ?_)
  obtain ⟨m4, n4, d1, d2, d3, d4, d5, d6⟩ := u4
  have F : sw_ke (G4 0) (G4 1) = true ∧ (G4 1).1.length = 10 ∧ (G4 1).2.length = 10 := by
    rcases hh with ⟨_, s0, s1⟩ | ⟨s0, s1⟩
    · rw [s0, s1, p0, p1, q0', q1']
      refine ⟨k3.2, ?_, ?_⟩
      · unfold sw_J1
        rw [sw_col1, sw_col1]
        exact (sw_combL 1 [v, w, x, y, z] [w, x, y, z] 10 8).1
      · unfold sw_J1
        rw [sw_col2, sw_col2]
        rw [show (sw_H1 v w x y z).2.length = 8 from (sw_combL 1 [v, w, x, y, z] [w, x, y, z] 10 8).2]
    · have s0' : G4 0 = sw_E0 v w x y z e := s0
      have s1' : G4 1 = sw_E1 v w x y z e := s1
      rw [s0', s1']
      exact ⟨k4.2, (sw_combL 1 [e, w, x, y, z] [w, x, y, z, v] 10 10).1, (sw_combL 1 [e, w, x, y, z] [w, x, y, z, v] 10 10).2⟩
  obtain ⟨F0, F1, F2⟩ := F
  obtain ⟨f1, f2, f3⟩ := sw_keF F0
  refine sw_commonEnd h4' rfl (by simp) f1 ?_
  refine br_f (by decide) ?_
  refine br_t e5 ?_
  refine br_t rfl ?_
  refine br_t rfl ?_
  refine sw_commonB5 h4' rfl f2 (fun c hc => ?_)
  refine br_f (nI_nlt (b := 4) (by omega) (by omega)) ?_
  refine sw_rotated h4' (by simp) r3 (fun G5 u5 h5 t0 t1 => ?_)
  obtain ⟨m5, n5, f1', f2', f3', f4', f5', f6'⟩ := u5
  have hw5 : sw_wd (sw_comb 2 [e, w, x, y, z] [w, x, y, z, v] 5 10) 5 5 ≤ 5 := sw_wd_le _ _ _
  refine br_c (fun zz => ?_) (fun zz => ?_)
  · rw [h4] at zz
    have ev : e = v := (nI_eq (by omega) (by omega)).mp zz
    have r5 : 5 ≤ sw_wd (sw_comb 2 [e, w, x, y, z] [w, x, y, z, v] 5 10) 5 5 := by
      rw [ev]
      exact r2
    exact sw_L416 h5 rfl rfl (by rw [t1]; exact F1) (by rw [t1]; exact F2) (by rw [t1]; exact f3) (nI_nlt (b := 5) r5 (Nat.lt_of_le_of_lt hw5 (by omega))) hp
  · exact sw_L416 h5 rfl rfl (by rw [t1]; exact F1) (by rw [t1]; exact F2) (by rw [t1]; exact f3) (nI_nlt (b := 4) r4 (Nat.lt_of_le_of_lt hw5 (by omega))) hp
theorem sw_L245 {post : Int32 → St0 → Prop} {mc ms kc ks : Nat} {x0 x4 : Int32} {v w x y z : Nat} (hv : v < 4) (hw : w < 4) (hx : x < 4) (hy : y < 4) (hz : z < 4) {e : Nat} (he : e < 4) {G : Nat → List Nat × List Nat} {m n : Int32} {a1 a2 a3 a4 a5 a6 : Nat → Int32} (h0 : x0 &&& 3 = nI v) (h4 : x4 &&& 3 = nI e) (ho : sw_ok [v, w, x, y, z] [v, w, x, y, z] G (m, n, a1, a2, a3, a4, a5, a6)) (hp : post 1 ()) : wL_lawOf_245 post mc ms x0 x4 1 kc ks m n a1 a2 a3 a4 a5 a6 := by
  have c0 : (sw_H0 v w x y z).1.length = 5 ∧ (sw_H0 v w x y z).2.length = 4 := sw_combL 0 [v, w, x, y, z] [w, x, y, z] 5 4
  have c1 : (sw_H1 v w x y z).1.length = 10 ∧ (sw_H1 v w x y z).2.length = 8 := sw_combL 1 [v, w, x, y, z] [w, x, y, z] 10 8
  have k2 := sw_t2 hv hw hx hy hz
  unfold sw_k2 at k2
  rw [Bool.and_eq_true, Bool.and_eq_true] at k2
  have d0 := sw_ltF k2.1.1
  have d1 := sw_ltF k2.1.2
  have d2 := Nat.eq_of_beq_eq_true k2.2
  unfold wL_lawOf_245
  refine sw_shiftB (c := v) (B := [w, x, y, z]) ho (fun G2 u2 h2 q0 q1 => ?_)
  obtain ⟨m2, n2, b1, b2, b3, b4, b5, b6⟩ := u2
  have q0' : G2 0 = sw_H0 v w x y z := q0
  have q1' : G2 1 = sw_H1 v w x y z := q1
  have D0 : ∀ k, k < (G2 0).2.length → (G2 0).2.getD k 0 < 20 := by
    rw [q0']
    exact fun k hk => Nat.lt_trans (d0 k hk) (by omega)
  have D1 : ∀ k, k < (G2 1).2.length → (G2 1).2.getD k 0 < 20 := by
    rw [q1']
    exact d1
  have l0 : (G2 0).2.length = 4 := by rw [q0']; exact c0.2
  have l1 : (G2 1).2.length = 8 := by rw [q1']; exact c1.2
  refine br_f (by decide) ?_
  refine br_t h0.symm ?_
  refine sw_commonB (i := 0) (j := 4) h2 l0 D0 (by omega) (by simp) ?_
  refine br_t rfl ?_
  refine sw_changesB (i := 0) (j := 4) h2 rfl l1 D1 (by omega) (by simp) (by simp) ?_
  refine br_t rfl ?_
  refine sw_nearest h2 rfl l1 D1 (by simp) ?_
  refine br_t rfl ?_
  refine sw_commonEnd h2 rfl (by simp) ?_ ?_
  · rw [q0']
    exact sw_cm0 (fun k hk _ => d0 k hk) (by rw [c0.2]; omega)
  refine br_t rfl ?_
  refine sw_commonBegin h2 rfl rfl (by rw [q0']; exact d2) ?_
  refine br_t rfl ?_
  exact sw_L324 hv hw hx hy hz he rfl h4 h2 q0' q1' hp
end
section
/-! the law's first half, and what is owed -/
theorem sw_L218 {post : Int32 → St0 → Prop} {mc ms kc ks : Nat} {x0 x4 z0 z1 : Int32} {v w x y z : Nat} (hv : v < 4) (hw : w < 4) (hx : x < 4) (hy : y < 4) (hz : z < 4) {e : Nat} (he : e < 4) {G : Nat → List Nat × List Nat} {m n : Int32} {a1 a2 a3 a4 a5 a6 : Nat → Int32} (h0 : x0 &&& 3 = nI v) (h4 : x4 &&& 3 = nI e) (ho : sw_ok [v, w, x, y, z] [v, w, x, y, z] G (m, n, a1, a2, a3, a4, a5, a6)) (g0 : G 0 = sw_F0 v w x y z) (g1 : G 1 = sw_F1 v w x y z) (h : z1 = z0) (hp : post 1 ()) : wL_lawOf_218 post mc ms x0 x4 z0 z1 kc ks m n a1 a2 a3 a4 a5 a6 := by
  obtain ⟨d0, d1, dA, r1, r2⟩ := sw_fact1 hv hw hx hy hz
  have D0 : ∀ k, k < (G 0).2.length → (G 0).2.getD k 0 < 20 := by
    rw [g0]
    exact d0
  have D1 : ∀ k, k < (G 1).2.length → (G 1).2.getD k 0 < 20 := by
    rw [g1]
    exact d1
  have l0 : (G 0).2.length = 5 := by rw [g0]; exact (sw_F0L v w x y z).2
  have l0' : (G 0).1.length = 5 := by rw [g0]; exact (sw_F0L v w x y z).1
  have l1 : (G 1).2.length = 10 := by rw [g1]; exact (sw_F1L v w x y z).2
  have hn : n = 5 := ho.2.1.2
  have hm : m = 5 := ho.2.1.1
  unfold wL_lawOf_218
  refine br_t h ?_
  refine sw_tight ho rfl l0 D0 ?_
  refine br_t rfl ?_
  refine sw_rotated ho (by simp) r1 (fun G2 u2 h2 p0 p1 => ?_)
  obtain ⟨m2, n2, b1, b2, b3, b4, b5, b6⟩ := u2
  refine br_t (congrArg nI r2) ?_
  exact sw_L245 hv hw hx hy hz he h0 h4 h2 hp
theorem sw_L194 {post : Int32 → St0 → Prop} {mc ms kc ks : Nat} {x0 x3 x4 z0 z1 : Int32} {v w x y z : Nat} (hv : v < 4) (hw : w < 4) (hx : x < 4) (hy : y < 4) (hz : z < 4) {e : Nat} (he : e < 4) {G : Nat → List Nat × List Nat} {m n : Int32} {a1 a2 a3 a4 a5 a6 : Nat → Int32} (h0 : x0 &&& 3 = nI v) (h4 : x4 &&& 3 = nI e) (ho : sw_ok [v, w, x, y, z] [v, w, x, y, z] G (m, n, a1, a2, a3, a4, a5, a6)) (g0 : G 0 = sw_F0 v w x y z) (g1 : G 1 = sw_F1 v w x y z) (h : z1 = z0) (hp : post 1 ()) : wL_lawOf_194 post mc ms x0 x3 x4 z0 z1 kc ks m n a1 a2 a3 a4 a5 a6 := by
  obtain ⟨d0, d1, dA, r1, r2⟩ := sw_fact1 hv hw hx hy hz
  have D0 : ∀ k, k < (G 0).2.length → (G 0).2.getD k 0 < 20 := by
    rw [g0]
    exact d0
  have D1 : ∀ k, k < (G 1).2.length → (G 1).2.getD k 0 < 20 := by
    rw [g1]
    exact d1
  have l0 : (G 0).2.length = 5 := by rw [g0]; exact (sw_F0L v w x y z).2
  have l0' : (G 0).1.length = 5 := by rw [g0]; exact (sw_F0L v w x y z).1
  have l1 : (G 1).2.length = 10 := by rw [g1]; exact (sw_F1L v w x y z).2
  have hn : n = 5 := ho.2.1.2
  have hm : m = 5 := ho.2.1.1
  unfold wL_lawOf_194
  refine br_t h ?_
  by_cases c1 : x3 < 0
  · refine sw_widestN (Or.inl c1) ?_
    refine br_t c1 ?_
    exact sw_L218 hv hw hx hy hz he h0 h4 ho g0 g1 rfl hp
  · by_cases c2 : x3 ≤ 5
    · obtain ⟨q, hq, eq⟩ := nI_of2 (M := 5) (n := 5) (by decide) c1 c2
      subst eq
      refine sw_widest ho l0 D0 hq ?_
      refine br_f c1 ?_
      refine br_t c2 ?_
      exact sw_L218 hv hw hx hy hz he h0 h4 ho g0 g1 rfl hp
    · refine sw_widestN (Or.inr ?_) ?_
      · show ¬ x3 ≤ n
        rw [hn]
        exact c2
      · refine br_f c1 ?_
        refine br_f c2 ?_
        exact sw_L218 hv hw hx hy hz he h0 h4 ho g0 g1 rfl hp
theorem sw_L148 {post : Int32 → St0 → Prop} {mc ms kc ks : Nat} {x0 x3 x4 z0 z1 : Int32} {v w x y z : Nat} (hv : v < 4) (hw : w < 4) (hx : x < 4) (hy : y < 4) (hz : z < 4) {e : Nat} (he : e < 4) {G : Nat → List Nat × List Nat} {m n : Int32} {a1 a2 a3 a4 a5 a6 : Nat → Int32} (h0 : x0 &&& 3 = nI v) (h4 : x4 &&& 3 = nI e) (ho : sw_ok [v, w, x, y, z] [v, w, x, y, z] G (m, n, a1, a2, a3, a4, a5, a6)) (g0 : G 0 = sw_F0 v w x y z) (g1 : G 1 = sw_F1 v w x y z) (h : z1 = z0) (hp : post 1 ()) : wL_lawOf_148 post mc ms x0 x3 x4 z0 z1 kc ks m n a1 a2 a3 a4 a5 a6 := by
  obtain ⟨d0, d1, dA, r1, r2⟩ := sw_fact1 hv hw hx hy hz
  have D0 : ∀ k, k < (G 0).2.length → (G 0).2.getD k 0 < 20 := by
    rw [g0]
    exact d0
  have D1 : ∀ k, k < (G 1).2.length → (G 1).2.getD k 0 < 20 := by
    rw [g1]
    exact d1
  have l0 : (G 0).2.length = 5 := by rw [g0]; exact (sw_F0L v w x y z).2
  have l0' : (G 0).1.length = 5 := by rw [g0]; exact (sw_F0L v w x y z).1
  have l1 : (G 1).2.length = 10 := by rw [g1]; exact (sw_F1L v w x y z).2
  have hn : n = 5 := ho.2.1.2
  have hm : m = 5 := ho.2.1.1
  unfold wL_lawOf_148
  refine br_t h ?_
  refine sw_nearest ho rfl l1 D1 (by simp) ?_
  refine br_t rfl ?_
  refine sw_nearestAt ho rfl l1 D1 (by simp) ?_
  refine br_t rfl ?_
  by_cases c1 : 1 ≤ x3
  · by_cases c2 : x3 ≤ 5
    · have c0 : ¬ x3 < 0 := by
        intro t
        have t1 := Int32.lt_iff_toInt_lt.mp t
        have t2 := Int32.le_iff_toInt_le.mp c1
        rw [show (0 : Int32).toInt = 0 from rfl] at t1
        rw [show (1 : Int32).toInt = 1 from rfl] at t2
        omega
      obtain ⟨q, hq, eq⟩ := nI_of2 (M := 5) (n := 5) (by decide) c0 c2
      subst eq
      refine sw_shortest q ho rfl l0 D0 hq (fun k hk => nI_lt hk (by omega)) (nI_nlt (Nat.le_refl _) (by omega)) ?_
      refine br_t c1 ?_
      refine br_t c2 ?_
      exact sw_L194 hv hw hx hy hz he h0 h4 ho g0 g1 rfl hp
    · refine sw_shortestN ho rfl l0 D0 (fun k hk => ?_) ?_
      · have t := Int32.not_le.mp c2
        have t1 := Int32.lt_iff_toInt_lt.mp t
        rw [Int32.lt_iff_toInt_lt, nI_toInt (by omega)]
        rw [show (5 : Int32).toInt = 5 from rfl] at t1
        omega
      · refine br_t c1 ?_
        refine br_f c2 ?_
        exact sw_L194 hv hw hx hy hz he h0 h4 ho g0 g1 rfl hp
  · refine sw_shortest 0 ho rfl l0 D0 (by omega) (fun k hk => absurd hk (by omega)) ?_ ?_
    · intro t
      have t1 := Int32.lt_iff_toInt_lt.mp t
      have t2 : ¬ (1 : Int32).toInt ≤ x3.toInt := fun s => c1 (Int32.le_iff_toInt_le.mpr s)
      rw [nI_toInt (by omega)] at t1
      rw [show (1 : Int32).toInt = 1 from rfl] at t2
      omega
    · refine br_f c1 ?_
      exact sw_L194 hv hw hx hy hz he h0 h4 ho g0 g1 rfl hp
/-- the law's word for a stretch: t is 1 where i and j are one -/
def sw_st (x1 x2 t : Int32) : Prop := (t = 0 ∧ (x1 < 0 ∨ x2 < x1 ∨ ¬ x2 ≤ 5)) ∨ (t = 1 ∧ ∃ i j : Nat, i ≤ j ∧ j ≤ 5 ∧ x1 = nI i ∧ x2 = nI j)
theorem sw_L126 {post : Int32 → St0 → Prop} {mc ms kc ks : Nat} {x0 x1 x2 x3 x4 x6 z0 z1 : Int32} {v w x y z : Nat} (hv : v < 4) (hw : w < 4) (hx : x < 4) (hy : y < 4) (hz : z < 4) {e : Nat} (he : e < 4) {G : Nat → List Nat × List Nat} {m n : Int32} {a1 a2 a3 a4 a5 a6 : Nat → Int32} (h0 : x0 &&& 3 = nI v) (h4 : x4 &&& 3 = nI e) (ho : sw_ok [v, w, x, y, z] [v, w, x, y, z] G (m, n, a1, a2, a3, a4, a5, a6)) (g0 : G 0 = sw_F0 v w x y z) (g1 : G 1 = sw_F1 v w x y z) (hs : sw_st x1 x2 x6) (h : z1 = z0) (hp : post 1 ()) : wL_lawOf_126 post mc ms x0 x1 x2 x3 x4 x6 z0 z1 kc ks m n a1 a2 a3 a4 a5 a6 := by
  obtain ⟨d0, d1, dA, r1, r2⟩ := sw_fact1 hv hw hx hy hz
  have D0 : ∀ k, k < (G 0).2.length → (G 0).2.getD k 0 < 20 := by
    rw [g0]
    exact d0
  have D1 : ∀ k, k < (G 1).2.length → (G 1).2.getD k 0 < 20 := by
    rw [g1]
    exact d1
  have l0 : (G 0).2.length = 5 := by rw [g0]; exact (sw_F0L v w x y z).2
  have l0' : (G 0).1.length = 5 := by rw [g0]; exact (sw_F0L v w x y z).1
  have l1 : (G 1).2.length = 10 := by rw [g1]; exact (sw_F1L v w x y z).2
  have hn : n = 5 := ho.2.1.2
  have hm : m = 5 := ho.2.1.1
  unfold wL_lawOf_126
  refine br_t h ?_
  rcases hs with ⟨ht, hb⟩ | ⟨ht, i, j, hij, hj, e1, e2⟩
  · subst ht
    refine sw_commonAx ?_ ?_
    · show x1 < 0 ∨ x2 < x1 ∨ ¬ x2 ≤ m
      rw [hm]
      exact hb
    · refine br_t rfl ?_
      exact sw_L148 hv hw hx hy hz he h0 h4 ho g0 g1 rfl hp
  · subst ht e1 e2
    refine sw_commonA ho rfl l0' l0 hij hj (by rw [g0]; exact dA i j hij hj) ?_
    refine br_f (by decide) ?_
    exact sw_L148 hv hw hx hy hz he h0 h4 ho g0 g1 (pk_sub hij).symm hp
theorem sw_L102 {post : Int32 → St0 → Prop} {mc ms kc ks : Nat} {x0 x1 x2 x3 x4 x6 z0 z1 : Int32} {v w x y z : Nat} (hv : v < 4) (hw : w < 4) (hx : x < 4) (hy : y < 4) (hz : z < 4) {e : Nat} (he : e < 4) {G : Nat → List Nat × List Nat} {m n : Int32} {a1 a2 a3 a4 a5 a6 : Nat → Int32} (h0 : x0 &&& 3 = nI v) (h4 : x4 &&& 3 = nI e) (ho : sw_ok [v, w, x, y, z] [v, w, x, y, z] G (m, n, a1, a2, a3, a4, a5, a6)) (g0 : G 0 = sw_F0 v w x y z) (g1 : G 1 = sw_F1 v w x y z) (hs : sw_st x1 x2 x6) (h : z1 = z0) (hp : post 1 ()) : wL_lawOf_102 post mc ms x0 x1 x2 x3 x4 x6 z0 z1 kc ks m n a1 a2 a3 a4 a5 a6 := by
  obtain ⟨d0, d1, dA, r1, r2⟩ := sw_fact1 hv hw hx hy hz
  have D0 : ∀ k, k < (G 0).2.length → (G 0).2.getD k 0 < 20 := by
    rw [g0]
    exact d0
  have D1 : ∀ k, k < (G 1).2.length → (G 1).2.getD k 0 < 20 := by
    rw [g1]
    exact d1
  have l0 : (G 0).2.length = 5 := by rw [g0]; exact (sw_F0L v w x y z).2
  have l0' : (G 0).1.length = 5 := by rw [g0]; exact (sw_F0L v w x y z).1
  have l1 : (G 1).2.length = 10 := by rw [g1]; exact (sw_F1L v w x y z).2
  have hn : n = 5 := ho.2.1.2
  have hm : m = 5 := ho.2.1.1
  have hs' := hs
  unfold wL_lawOf_102
  refine br_t h ?_
  rcases hs with ⟨ht, hb⟩ | ⟨ht, i, j, hij, hj, e1, e2⟩
  · subst ht
    refine sw_changesBx ?_ ?_
    · show x1 < 0 ∨ x2 < x1 ∨ ¬ x2 ≤ n
      rw [hn]
      exact hb
    · refine br_t rfl ?_
      exact sw_L126 hv hw hx hy hz he h0 h4 ho g0 g1 hs' rfl hp
  · subst ht e1 e2
    refine sw_changesB ho rfl l1 D1 hij hj (by simp) ?_
    refine br_f (by decide) ?_
    refine sw_L126 hv hw hx hy hz he h0 h4 ho g0 g1 hs' ?_ hp
    rw [show (5 : Int32) = nI 5 from rfl, pk_sub hj, nI_add, show 5 - (j - i) = 5 - j + i by omega]
theorem sw_L71 {post : Int32 → St0 → Prop} {mc ms kc ks : Nat} {x0 x1 x2 x3 x4 x6 : Int32} {v w x y z : Nat} (hv : v < 4) (hw : w < 4) (hx : x < 4) (hy : y < 4) (hz : z < 4) {e : Nat} (he : e < 4) {G : Nat → List Nat × List Nat} {m n : Int32} {a1 a2 a3 a4 a5 a6 : Nat → Int32} (h0 : x0 &&& 3 = nI v) (h4 : x4 &&& 3 = nI e) (ho : sw_ok [v, w, x, y, z] [v, w, x, y, z] G (m, n, a1, a2, a3, a4, a5, a6)) (g0 : G 0 = sw_F0 v w x y z) (g1 : G 1 = sw_F1 v w x y z) (hs : sw_st x1 x2 x6) (hp : post 1 ()) : wL_lawOf_71 post mc ms x0 x1 x2 x3 x4 x6 kc ks m n a1 a2 a3 a4 a5 a6 := by
  obtain ⟨d0, d1, dA, r1, r2⟩ := sw_fact1 hv hw hx hy hz
  have D0 : ∀ k, k < (G 0).2.length → (G 0).2.getD k 0 < 20 := by
    rw [g0]
    exact d0
  have D1 : ∀ k, k < (G 1).2.length → (G 1).2.getD k 0 < 20 := by
    rw [g1]
    exact d1
  have l0 : (G 0).2.length = 5 := by rw [g0]; exact (sw_F0L v w x y z).2
  have l0' : (G 0).1.length = 5 := by rw [g0]; exact (sw_F0L v w x y z).1
  have l1 : (G 1).2.length = 10 := by rw [g1]; exact (sw_F1L v w x y z).2
  have hn : n = 5 := ho.2.1.2
  have hm : m = 5 := ho.2.1.1
  have hs' := hs
  have hl : ∀ Q : Int32 → Prop, Q 85 → wpX_lengths Q (m, n, a1, a2, a3, a4, a5, a6) := fun Q hQ => by
    rw [hm, hn]
    exact hQ
  unfold wL_lawOf_71
  refine hl _ ?_
  refine br_t rfl ?_
  rcases hs with ⟨ht, hb⟩ | ⟨ht, i, j, hij, hj, e1, e2⟩
  · subst ht
    refine sw_commonBx ?_ ?_
    · show x1 < 0 ∨ x2 < x1 ∨ ¬ x2 ≤ n
      rw [hn]
      exact hb
    · refine br_t rfl ?_
      exact sw_L102 hv hw hx hy hz he h0 h4 ho g0 g1 hs' rfl hp
  · subst ht e1 e2
    refine sw_commonB ho l0 D0 hij hj ?_
    refine br_f (by decide) ?_
    exact sw_L102 hv hw hx hy hz he h0 h4 ho g0 g1 hs' (pk_sub hij).symm hp
/-- the law's loop: behind it -/
theorem sw_L12x {post : Int32 → St0 → Prop} {mc ms kc ks : Nat} {x0 x1 x2 x3 x4 : Int32} {fu : Nat} {v w x y z : Nat} (hv : v < 4) (hw : w < 4) (hx : x < 4) (hy : y < 4) (hz : z < 4) {e : Nat} (he : e < 4) {G : Nat → List Nat × List Nat} {m n : Int32} {a1 a2 a3 a4 a5 a6 : Nat → Int32} (h0 : x0 &&& 3 = nI v) (h4 : x4 &&& 3 = nI e) (ho : sw_ok [v, w, x, y, z] [v, w, x, y, z] G (m, n, a1, a2, a3, a4, a5, a6)) (g0 : G 0 = sw_F0 v w x y z) (g1 : G 1 = sw_F1 v w x y z) (hp : post 1 ()) : wL_lawOf_12 post mc ms x0 x1 x2 x3 x4 kc ks (fu + 1) (nI 5) m n a1 a2 a3 a4 a5 a6 := by
  refine br_t (by decide) ?_
  refine br_c (fun c1 => ?_) (fun c1 => br_c (fun c2 => ?_) (fun c2 => br_c (fun c3 => ?_) (fun c3 => ?_)))
  · exact sw_L71 hv hw hx hy hz he h0 h4 ho g0 g1 (Or.inl ⟨rfl, Or.inl c1⟩) hp
  · exact sw_L71 hv hw hx hy hz he h0 h4 ho g0 g1 (Or.inl ⟨rfl, Or.inr (Or.inl c2)⟩) hp
  · exact sw_L71 hv hw hx hy hz he h0 h4 ho g0 g1 (Or.inl ⟨rfl, Or.inr (Or.inr (Int32.not_le.mpr c3))⟩) hp
  · have c3' : x2 ≤ 5 := Int32.not_lt.mp c3
    have c2' : x1 ≤ x2 := Int32.not_lt.mp c2
    obtain ⟨i, hi, ei⟩ := nI_of c1
    have c4 : ¬ x2 < 0 := by
      intro t
      have t1 := Int32.lt_iff_toInt_lt.mp t
      have t2 := Int32.le_iff_toInt_le.mp c2'
      rw [ei, nI_toInt hi] at t2
      rw [show (0 : Int32).toInt = 0 from rfl] at t1
      omega
    obtain ⟨j, hj, ej⟩ := nI_of2 (M := 5) (n := 5) (by decide) c4 c3'
    have hij : i ≤ j := by
      rw [ei, ej] at c2'
      exact (nI_leI hi (by omega)).mp c2'
    exact sw_L71 hv hw hx hy hz he h0 h4 ho g0 g1 (Or.inr ⟨rfl, i, j, hij, hj, ei, ej⟩) hp
/-- one turn -/
theorem sw_turn {post : Int32 → St0 → Prop} {mc ms kc ks : Nat} {x0 x1 x2 x3 x4 : Int32} {fu k c : Nat} {W : List Nat} {G : Nat → List Nat × List Nat} {m n : Int32} {a1 a2 a3 a4 a5 a6 : Nat → Int32} (ho : sw_ok W W G (m, n, a1, a2, a3, a4, a5, a6)) (hk : k < 5) (hW : W.length = k) (l1 : (G 0).1.length = k) (l2 : (G 0).2.length = k) (l3 : (G 1).1.length = 2 * k) (l4 : (G 1).2.length = 2 * k) (hc : c < 4)
    (hx : (x0 >>> ((2 * nI k) &&& 31)) &&& 3 = nI c)
    (hp : ∀ (G' : Nat → List Nat × List Nat) (m n : Int32) (a1 a2 a3 a4 a5 a6 : Nat → Int32), sw_ok (W ++ [c]) (W ++ [c]) G' (m, n, a1, a2, a3, a4, a5, a6) → G' 0 = sw_q0 W c (G 0) → G' 1 = sw_q1 W c (G 1) → wL_lawOf_12 post mc ms x0 x1 x2 x3 x4 kc ks fu (nI (k + 1)) m n a1 a2 a3 a4 a5 a6) :
    wL_lawOf_12 post mc ms x0 x1 x2 x3 x4 kc ks (fu + 1) (nI k) m n a1 a2 a3 a4 a5 a6 := by
  have hWc : (W ++ [c]).length = k + 1 := by simp [hW]
  refine br_f (nI_ge (b := 5) hk (by omega)) ?_
  refine sw_growA ho hx hc (by omega) (by omega) (by omega) (by omega) (by omega) (fun r G2 u2 h2 p0 p1 => ?_)
  obtain ⟨m2, n2, b1, b2, b3, b4, b5, b6⟩ := u2
  refine sw_growB h2 hx hc (by omega) (by rw [p0, sw_row1]; omega) (by rw [p0, sw_row2]; omega) (by rw [p1, sw_row1, sw_row1]; omega) (by rw [p1, sw_row2, sw_row2]; omega) (fun r3 G3 u3 h3 q0 q1 => ?_)
  obtain ⟨m3, n3, c1, c2, c3, c4, c5, c6⟩ := u3
  refine nm_r (nI_1 k) ?_
  exact hp G3 _ _ _ _ _ _ _ _ h3 (by rw [q0, p0]; rfl) (by rw [q1, p1]; rfl)
theorem sw_q0L {W : List Nat} {c k : Nat} {P : List Nat × List Nat} (h1 : P.1.length = k) (h2 : P.2.length = k) : (sw_q0 W c P).1.length = k + 1 ∧ (sw_q0 W c P).2.length = k + 1 := by
  unfold sw_q0
  rw [sw_col1, sw_col2, sw_row1, sw_row2, h1, h2]
  exact ⟨rfl, rfl⟩
theorem sw_q1L {W : List Nat} {c k : Nat} {P : List Nat × List Nat} (h1 : P.1.length = 2 * k) (h2 : P.2.length = 2 * k) : (sw_q1 W c P).1.length = 2 * (k + 1) ∧ (sw_q1 W c P).2.length = 2 * (k + 1) := by
  unfold sw_q1
  rw [sw_col1, sw_col1, sw_col2, sw_col2, sw_row1, sw_row1, sw_row2, sw_row2, h1, h2]
  exact ⟨rfl, rfl⟩
theorem sw_L12 {post : Int32 → St0 → Prop} {mc ms kc ks : Nat} (x0 x1 x2 x3 x4 : Int32) (hp : post 1 ()) : ∃ fu, wL_lawOf_12 post mc ms x0 x1 x2 x3 x4 kc ks fu 0 0 0 (fun _ => 0) (fun _ => 0) (fun _ => 0) (fun _ => 0) (fun _ => 0) (fun _ => 0) := by
  obtain ⟨v, hv, ev⟩ := pk_andE (x0 >>> ((2 * nI 0) &&& 31)) (m := 3) 2 (by decide)
  obtain ⟨w, hw, ew⟩ := pk_andE (x0 >>> ((2 * nI 1) &&& 31)) (m := 3) 2 (by decide)
  obtain ⟨x, hx, ex⟩ := pk_andE (x0 >>> ((2 * nI 2) &&& 31)) (m := 3) 2 (by decide)
  obtain ⟨y, hy, ey⟩ := pk_andE (x0 >>> ((2 * nI 3) &&& 31)) (m := 3) 2 (by decide)
  obtain ⟨z, hz, ez⟩ := pk_andE (x0 >>> ((2 * nI 4) &&& 31)) (m := 3) 2 (by decide)
  obtain ⟨e, he, ee⟩ := pk_andE x4 (m := 3) 2 (by decide)
  have h0 : x0 &&& 3 = nI v := by
    have t : (2 * nI 0) &&& 31 = (0 : Int32) &&& 31 := by decide
    rw [t, sb_shr0] at ev
    exact ev
  have o0 : sw_ok [] [] (fun _ => ([], [])) (0, 0, (fun _ => 0), (fun _ => 0), (fun _ => 0), (fun _ => 0), (fun _ => 0), (fun _ => 0)) := by
    refine ⟨⟨by simp, by simp⟩, ⟨rfl, rfl⟩, ⟨fun i hi => absurd hi (by simp), fun i => by simp⟩, ⟨fun i hi => absurd hi (by simp), fun i => by simp⟩, fun b hb => ⟨⟨by simp, by simp⟩, ⟨rfl, rfl⟩, fun i hi => absurd hi (by simp), fun i hi => absurd hi (by simp), fun i => by simp, fun i => by simp⟩⟩
  refine ⟨6, ?_⟩
  refine sw_turn (k := 0) (W := []) o0 (by omega) rfl rfl rfl rfl rfl hv ev (fun G1 m1 n1 a1 a2 a3 a4 a5 a6 o1 p0 p1 => ?_)
  obtain ⟨s1, s2⟩ := sw_q0L (W := []) (c := v) (k := 0) (P := ([], [])) rfl rfl
  obtain ⟨s3, s4⟩ := sw_q1L (W := []) (c := v) (k := 0) (P := ([], [])) rfl rfl
  refine sw_turn (k := 1) (W := [v]) o1 (by omega) rfl (by rw [p0]; exact s1) (by rw [p0]; exact s2) (by rw [p1]; exact s3) (by rw [p1]; exact s4) hw ew (fun G2 m2 n2 b1 b2 b3 b4 b5 b6 o2 q0 q1 => ?_)
  rw [p0] at q0
  rw [p1] at q1
  obtain ⟨s1, s2⟩ := sw_q0L (W := [v]) (c := w) s1 s2
  obtain ⟨s3, s4⟩ := sw_q1L (W := [v]) (c := w) s3 s4
  refine sw_turn (k := 2) (W := [v, w]) o2 (by omega) rfl (by rw [q0]; exact s1) (by rw [q0]; exact s2) (by rw [q1]; exact s3) (by rw [q1]; exact s4) hx ex (fun G3 m3 n3 c1 c2 c3 c4 c5 c6 o3 r0 r1 => ?_)
  rw [q0] at r0
  rw [q1] at r1
  obtain ⟨s1, s2⟩ := sw_q0L (W := [v, w]) (c := x) s1 s2
  obtain ⟨s3, s4⟩ := sw_q1L (W := [v, w]) (c := x) s3 s4
  refine sw_turn (k := 3) (W := [v, w, x]) o3 (by omega) rfl (by rw [r0]; exact s1) (by rw [r0]; exact s2) (by rw [r1]; exact s3) (by rw [r1]; exact s4) hy ey (fun G4 m4 n4 d1 d2 d3 d4 d5 d6 o4 t0 t1 => ?_)
  rw [r0] at t0
  rw [r1] at t1
  obtain ⟨s1, s2⟩ := sw_q0L (W := [v, w, x]) (c := y) s1 s2
  obtain ⟨s3, s4⟩ := sw_q1L (W := [v, w, x]) (c := y) s3 s4
  refine sw_turn (k := 4) (W := [v, w, x, y]) o4 (by omega) rfl (by rw [t0]; exact s1) (by rw [t0]; exact s2) (by rw [t1]; exact s3) (by rw [t1]; exact s4) hz ez (fun G5 m5 n5 e1 e2 e3 e4 e5 e6 o5 u0 u1 => ?_)
  rw [t0] at u0
  rw [t1] at u1
  exact sw_L12x (fu := 0) hv hw hx hy hz he h0 ee o5 u0 u1 hp
theorem sw_cellAt {post : Int32 → Prop} {L : Nat} {xs : Nat → Int32} {u : St0} {p : Int32} (k : Nat) (hL : L ≤ 5) (hk : k < 5) (hx : p = nI k) (hp : ∀ r, post r) : wpL_cellAt post L xs u p := by
  subst hx
  exact pk_le L k (fun _ => hp _) (fun z => ⟨pk_in k L z, hp _⟩)
theorem i_vc (xs : Nat → Int32) (L : Nat) (hL : L ≤ 5) : wpL_law (fun r => r = 1) L xs := by
  unfold wpL_law
  refine sw_cellAt 0 hL (by omega) rfl (fun x0 => ?_)
  refine sw_cellAt 1 hL (by omega) rfl (fun x1 => ?_)
  refine sw_cellAt 2 hL (by omega) rfl (fun x2 => ?_)
  refine sw_cellAt 3 hL (by omega) rfl (fun x3 => ?_)
  refine sw_cellAt 4 hL (by omega) rfl (fun x4 => ?_)
  refine ⟨7, 182, by omega, by omega, by omega, by omega, 6, 174, by omega, by omega, ?_⟩
  refine ⟨by omega, by omega, by omega, by omega, by omega, by omega, by omega, by omega, by omega, by omega, by omega, by omega, ?_⟩
  exact sw_L12 x0 x1 x2 x3 x4 rfl
end
