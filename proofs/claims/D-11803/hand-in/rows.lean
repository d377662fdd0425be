section
/-! tokens as plain functions, and the tokens of the one program -/
theorem tk_b2 {α : Type} {c : Prop} [Decidable c] (post : α → Prop) {x y : α} {A B : Prop} (h : post (if c then x else y)) (hA : post x → A) (hB : post y → B) : (c → A) ∧ (¬ c → B) := by
  by_cases hc : c
  · rw [if_pos hc] at h
    exact br_t hc (hA h)
  · rw [if_neg hc] at h
    exact br_f hc (hB h)
def tk_isIn (x a n : Int32) : Int32 := if x < a then 0 else if a + n ≤ x then 0 else 1
theorem tk_isIn_w {post : Int32 → Prop} {x a n : Int32} (h : post (tk_isIn x a n)) : wpX_isIn post () x a n := by
  unfold tk_isIn at h
  unfold wpX_isIn
  exact tk_b2 post h id (fun h => tk_b2 post h id id)
def tk_leaf (t : Int32) : Int32 := if tk_isIn t 100 16 = 0 then (if tk_isIn t 120 4 = 0 then (if tk_isIn t 124 4 = 0 then (if tk_isIn t 143 15 = 0 then (if tk_isIn t 210 81 = 0 then 0 else 1) else 1) else 1) else 1) else 1
theorem tk_leaf_w {post : Int32 → Prop} {t : Int32} (h : post (tk_leaf t)) : wpX_isLeaf post () t := by
  unfold tk_leaf at h
  unfold wpX_isLeaf
  exact tk_isIn_w (tk_b2 post h (fun h => tk_isIn_w (tk_b2 post h (fun h => tk_isIn_w (tk_b2 post h (fun h => tk_isIn_w (tk_b2 post h (fun h => tk_isIn_w (tk_b2 post h id id)) id)) id)) id)) id)
def tk_parts (t : Int32) : Int32 := if tk_leaf t = 0 then (if t = 2 then 0 else if t = 39 then 0 else if t = 128 then 1 else if t = 139 then 1 else if tk_isIn t 10 16 = 0 then (if tk_isIn t 30 4 = 0 then (if tk_isIn t 66 3 = 0 then (if t = 56 then 4 else if t = 35 then 3 else if t = 142 then 3 else if tk_isIn t 40 16 = 0 then (if tk_isIn t 63 3 = 0 then 2 else 3) else 3) else 1) else 1) else 1) else 0
theorem tk_parts_w {post : Int32 → Prop} {t : Int32} (h : post (tk_parts t)) : wpX_partsOf post () t := by
  unfold tk_parts at h
  unfold wpX_partsOf
  exact tk_leaf_w (tk_b2 post h (fun h => tk_b2 post h id (fun h => tk_b2 post h id (fun h => tk_b2 post h id (fun h => tk_b2 post h id (fun h => tk_isIn_w (tk_b2 post h (fun h => tk_isIn_w (tk_b2 post h (fun h => tk_isIn_w (tk_b2 post h (fun h => tk_b2 post h id (fun h => tk_b2 post h id (fun h => tk_b2 post h id (fun h => tk_isIn_w (tk_b2 post h (fun h => tk_isIn_w (tk_b2 post h id id)) id))))) id)) id)) id)))))) id)
def tk_sp (t j : Int32) : Int32 := if t = 1 then 1 else if t = 35 then (if j ≤ 0 then 0 else 1) else if t = 36 then (if j ≤ 0 then 0 else 1) else if t = 56 then (if j ≤ 0 then 0 else 1) else if t = 37 then (if j = 0 then 1 else 0) else if tk_isIn t 40 16 = 0 then 0 else if j = 2 then 1 else 0
theorem tk_sp25 {post : Int32 → Prop} {j : Int32} (h : post (if j ≤ 0 then 0 else 1)) : wX_isStatementPart_25 post j := by
  unfold wX_isStatementPart_25
  exact tk_b2 post h id id
theorem tk_sp_w {post : Int32 → Prop} {t j : Int32} (h : post (tk_sp t j)) : wpX_isStatementPart post () t j := by
  unfold tk_sp at h
  unfold wpX_isStatementPart
  exact tk_b2 post h id (fun h => tk_b2 post h tk_sp25 (fun h => tk_b2 post h tk_sp25 (fun h => tk_b2 post h tk_sp25 (fun h => tk_b2 post h (fun h => tk_b2 post h id id) (fun h => tk_isIn_w (tk_b2 post h id (fun h => tk_b2 post h id id)))))))
def tk_ex (t : Int32) : Int32 := if tk_leaf t = 0 then (if t = 128 then 1 else if tk_isIn t 130 13 = 0 then 0 else 1) else 1
theorem tk_ex_w {post : Int32 → Prop} {t : Int32} (h : post (tk_ex t)) : wpX_isExpression post () t := by
  unfold tk_ex at h
  unfold wpX_isExpression
  exact tk_leaf_w (tk_b2 post h (fun h => tk_b2 post h id (fun h => tk_isIn_w (tk_b2 post h id id))) id)
def tk_st (t : Int32) : Int32 := if t = 1 then 1 else if t = 2 then 1 else if tk_isIn t 10 16 = 0 then (if tk_isIn t 30 8 = 0 then (if t = 39 then 1 else if tk_isIn t 40 17 = 0 then (if tk_isIn t 60 9 = 0 then 0 else 1) else 1) else 1) else 1
theorem tk_st_w {post : Int32 → Prop} {t : Int32} (h : post (tk_st t)) : wpX_isStatement post () t := by
  unfold tk_st at h
  unfold wpX_isStatement
  exact tk_b2 post h id (fun h => tk_b2 post h id (fun h => tk_isIn_w (tk_b2 post h (fun h => tk_isIn_w (tk_b2 post h (fun h => tk_b2 post h id (fun h => tk_isIn_w (tk_b2 post h (fun h => tk_isIn_w (tk_b2 post h id id)) id))) id)) id)))
def tk_ju (t : Int32) : Int32 := if t = 301 then 1 else if t = 302 then 1 else if t = 303 then 1 else if t = 306 then 1 else if t = 309 then 1 else if t = 307 then 1 else 0
theorem tk_ju_w {post : Int32 → Prop} {t : Int32} (h : post (tk_ju t)) : wpX_jumps post () t := by
  unfold tk_ju at h
  unfold wpX_jumps
  exact tk_b2 post h id (fun h => tk_b2 post h id (fun h => tk_b2 post h id (fun h => tk_b2 post h id (fun h => tk_b2 post h id (fun h => tk_b2 post h id id)))))
/-! the tables of the one program (places 3 and 8 hold the two numbers) -/
def tk_L (k : Nat) : List Nat := [1, 60 + k, 120, 0, 1, 63 + k, 120, 121, 0, 1, 66 + k, 120, 1, 14, 130, 146 + k, 132, 143 + k, 290, 15, 130, 149 + k, 130, 132, 152 + k, 290, 155 + k]
def tk_T (k l g i : Nat) : Int32 := if i = 3 then nI (246 + l) else if i = 8 then nI (249 + g) else nI ((tk_L k).getD i 0)
def tk_np (i : Nat) : Nat := [2, 2, 0, 0, 2, 3, 0, 0, 0, 2, 1, 0, 2, 1, 2, 0, 2, 0, 0, 1, 2, 0, 2, 2, 0, 0, 0].getD i 0
def tk_kd (i : Nat) : Nat := [1, 0, 0, 0, 1, 0, 0, 0, 0, 1, 0, 0, 1, 0, 0, 0, 0, 0, 0, 0, 0, 0, 0, 0, 0, 0, 0].getD i 0
def tk_sm (i : Nat) : Nat := [1, 1, 0, 0, 1, 1, 0, 0, 0, 1, 1, 0, 1, 1, 0, 0, 0, 0, 0, 1, 0, 0, 0, 0, 0, 0, 0].getD i 0
def tk_c (i : Nat) : Nat := [1, 2, 3, 2, 1, 2, 4, 3, 2, 1, 2, 2, 1, 2, 2, 3, 2, 3, 2, 1, 1, 2, 1, 2, 3, 2, 1, 0].getD i 0
def tk_w (i j : Nat) : Nat := ([[1], [1, 1], [1, 0, 0], [1, 0], [1], [1, 1], [1, 0, 0, 0], [1, 0, 0], [1, 0], [1], [1, 1], [1, 0], [1], [1, 1], [1, 0], [1, 0, 0], [1, 0], [1, 0, 0], [1, 0], [1], [0], [0, 0], [0], [0, 0], [0, 0, 0], [0, 0], [0], []].getD i []).getD j 0
def tk_sn (i : Nat) : Nat := [27, 3, 1, 1, 23, 4, 1, 1, 1, 18, 2, 1, 15, 6, 5, 1, 3, 1, 1, 8, 7, 1, 5, 3, 1, 1, 1].getD i 0
def tk_pa (i j : Nat) : Nat := ([[1, 4, 27], [1, 2, 3], [1], [1], [1, 5, 23], [1, 2, 3, 4], [1], [1], [1], [1, 3, 18], [1, 2], [1], [1, 7, 15], [1, 6], [1, 2, 5], [1], [1, 2, 3], [1], [1], [1, 8], [1, 2, 7], [1], [1, 4, 5], [1, 2, 3], [1], [1], [1]].getD i []).getD j 0
def tk_nu (i : Nat) : Nat := [0, 0, 0, 1, 0, 0, 0, 0, 1, 0, 0, 0, 0, 0, 0, 0, 0, 0, 1, 0, 0, 0, 0, 0, 0, 1, 0].getD i 0
def tk_or (z : Nat) : Nat := [2, 3, 1, 6, 7, 8, 5, 11, 10, 15, 17, 18, 16, 14, 13, 21, 24, 25, 23, 26, 22, 20, 19].getD z 0
theorem tk_case {P : Int32 → Nat → Prop} (h : ∀ k, k < 3 → ∀ i, i < 27 → i ≠ 3 → i ≠ 8 → P (nI ((tk_L k).getD i 0)) i) (h3 : ∀ l, l < 32 → P (nI (246 + l)) 3) (h8 : ∀ g, g < 8 → P (nI (249 + g)) 8) {k l g i : Nat} (hk : k < 3) (hl : l < 32) (hg : g < 8) (hi : i < 27) : P (tk_T k l g i) i := by
  unfold tk_T
  by_cases e3 : i = 3
  · rw [if_pos e3, e3]
    exact h3 l hl
  · rw [if_neg e3]
    by_cases e8 : i = 8
    · rw [if_pos e8, e8]
      exact h8 g hg
    · rw [if_neg e8]
      exact h k hk i hi e3 e8
def tk_bad (t : Int32) : Bool := (t == 35) || ((t == 56) || ((t == 36) || ((t == 37) || ((tk_isIn t 40 16 == 1) || ((t == 39) || ((t == 2) || ((t == 300) || (tk_ju t == 1))))))))
theorem tk_01 (x a n : Int32) (h : (tk_isIn x a n == 1) = false) : tk_isIn x a n = 0 := by
  revert h
  unfold tk_isIn
  by_cases h1 : x < a
  · rw [if_pos h1]
    exact fun _ => rfl
  · rw [if_neg h1]
    by_cases h2 : a + n ≤ x
    · rw [if_pos h2]
      exact fun _ => rfl
    · rw [if_neg h2]
      exact fun h => absurd h (by decide)
theorem tk_ne {x y : Int32} (h : (x == y) = false) : x ≠ y := by
  intro e
  rw [e] at h
  exact absurd ((beq_self_eq_true y).symm.trans h) (by decide)
theorem tk_ju0 {t : Int32} (h : (tk_ju t == 1) = false) : tk_ju t = 0 := by
  have hz : ∀ (c : Prop) [Decidable c] (x : Int32), (x = 0 ∨ x = 1) → ((if c then 1 else x) = 0 ∨ (if c then 1 else x) = 1) := by
    intro c _ x hx
    by_cases hc : c
    · rw [if_pos hc]
      exact Or.inr rfl
    · rw [if_neg hc]
      exact hx
  have h2 : tk_ju t = 0 ∨ tk_ju t = 1 := by
    unfold tk_ju
    exact hz _ _ (hz _ _ (hz _ _ (hz _ _ (hz _ _ (hz _ _ (Or.inl rfl))))))
  rcases h2 with h2 | h2
  · exact h2
  · exact absurd h2 (tk_ne h)
theorem tk_bad_ne {t : Int32} (h : tk_bad t = false) : t ≠ 35 ∧ t ≠ 56 ∧ t ≠ 36 ∧ t ≠ 37 ∧ tk_isIn t 40 16 = 0 ∧ t ≠ 39 ∧ t ≠ 2 ∧ t ≠ 300 ∧ tk_ju t = 0 := by
  unfold tk_bad at h
  rw [Bool.or_eq_false_iff, Bool.or_eq_false_iff, Bool.or_eq_false_iff, Bool.or_eq_false_iff, Bool.or_eq_false_iff, Bool.or_eq_false_iff, Bool.or_eq_false_iff, Bool.or_eq_false_iff] at h
  obtain ⟨h1, h2, h3, h4, h5, h6, h7, h8, h9⟩ := h
  exact ⟨tk_ne h1, tk_ne h2, tk_ne h3, tk_ne h4, tk_01 _ _ _ h5, tk_ne h6, tk_ne h7, tk_ne h8, tk_ju0 h9⟩
section
variable {k l g i : Nat}
theorem tk_parts_T (hk : k < 3) (hl : l < 32) (hg : g < 8) (hi : i < 27) : tk_parts (tk_T k l g i) = nI (tk_np i) :=
  tk_case (P := fun t i => tk_parts t = nI (tk_np i)) (by decide +kernel) (by decide +kernel) (by decide +kernel) hk hl hg hi
theorem tk_sp_T (hk : k < 3) (hl : l < 32) (hg : g < 8) (hi : i < 27) : ∀ j, j < tk_np i → tk_sp (tk_T k l g i) (nI j) = nI (tk_kd i) :=
  tk_case (P := fun t i => ∀ j, j < tk_np i → tk_sp t (nI j) = nI (tk_kd i)) (by decide +kernel) (by decide +kernel) (by decide +kernel) hk hl hg hi
theorem tk_st_T (hk : k < 3) (hl : l < 32) (hg : g < 8) (hi : i < 27) : tk_st (tk_T k l g i) = nI (tk_sm i) :=
  tk_case (P := fun t i => tk_st t = nI (tk_sm i)) (by decide +kernel) (by decide +kernel) (by decide +kernel) hk hl hg hi
theorem tk_ex_T (hk : k < 3) (hl : l < 32) (hg : g < 8) (hi : i < 27) : tk_ex (tk_T k l g i) = nI (1 - tk_sm i) :=
  tk_case (P := fun t i => tk_ex t = nI (1 - tk_sm i)) (by decide +kernel) (by decide +kernel) (by decide +kernel) hk hl hg hi
theorem tk_nu_T (hk : k < 3) (hl : l < 32) (hg : g < 8) (hi : i < 27) : tk_isIn (tk_T k l g i) 210 81 = nI (tk_nu i) :=
  tk_case (P := fun t i => tk_isIn t 210 81 = nI (tk_nu i)) (by decide +kernel) (by decide +kernel) (by decide +kernel) hk hl hg hi
/-- no token of the program is one of the statements that steer -/
theorem tk_bad_T (hk : k < 3) (hl : l < 32) (hg : g < 8) (hi : i < 27) : tk_bad (tk_T k l g i) = false :=
  tk_case (P := fun t i => tk_bad t = false) (by decide +kernel) (by decide +kernel) (by decide +kernel) hk hl hg hi
theorem tk_pl_T (hk : k < 3) (hl : l < 32) (hg : g < 8) (hi : i < 27) : tk_T k l g i ≠ 35 ∧ tk_T k l g i ≠ 56 ∧ tk_T k l g i ≠ 36 ∧ tk_T k l g i ≠ 37 ∧ tk_isIn (tk_T k l g i) 40 16 = 0 ∧ tk_T k l g i ≠ 39 ∧ tk_T k l g i ≠ 2 ∧ tk_T k l g i ≠ 300 ∧ tk_ju (tk_T k l g i) = 0 :=
  tk_bad_ne (tk_bad_T hk hl hg hi)
theorem tk_one_T (hk : k < 3) (hl : l < 32) (hg : g < 8) (hi : i < 27) : (tk_T k l g i == 1) = (tk_kd i == 1) :=
  tk_case (P := fun t i => (t == 1) = (tk_kd i == 1)) (by decide +kernel) (by decide +kernel) (by decide +kernel) hk hl hg hi
theorem tk_sq_T (hk : k < 3) (hl : l < 32) (hg : g < 8) (hi : i < 27) : (tk_kd i = 1 → tk_T k l g i = 1) ∧ (tk_kd i = 0 → tk_T k l g i ≠ 1) := by
  have h := tk_one_T hk hl hg hi
  refine ⟨fun h1 => ?_, fun h1 e => ?_⟩
  · rw [h1] at h
    exact eq_of_beq h
  · rw [h1, e] at h
    exact absurd h (by decide)
end
theorem tk_tc : ∀ i, i < 27 → 1 ≤ tk_c i ∧ tk_c i - 1 + tk_np i = tk_c (i + 1) ∧ tk_c (i + 1) ≤ 10 ∧ tk_kd i < 2 ∧ tk_w i (tk_c i - 1) = tk_sm i ∧ tk_sm i < 2 ∧ tk_np i ≤ 3 ∧ tk_nu i < 2 := by decide +kernel
theorem tk_tw : ∀ i, i < 27 → ∀ j, j < tk_c (i + 1) → tk_w (i + 1) j = if j < tk_c i - 1 then tk_w i j else tk_kd i := by decide +kernel
theorem tk_tp : ∀ i, i < 27 → ∀ j, j < tk_np i → 1 ≤ tk_pa i j ∧ i + tk_pa i j < 27 ∧ tk_pa i j + tk_sn (i + tk_pa i j) = tk_pa i (j + 1) := by decide +kernel
theorem tk_tq : ∀ i, i < 27 → tk_pa i 0 = 1 ∧ tk_pa i (tk_np i) = tk_sn i ∧ tk_sn i ≤ 27 := by decide +kernel
end
section
/-! scan, feed, complete -/
section
variable {ti ac ru wc sz dp lo ex hei al ov : Int32} {a1 a2 a3 a4 a5 a6 a7 a8 a9 a10 a11 a12 a13 a14 a15 a16 a17 a18 a19 a20 a21 a22 a23 a24 a25 a26 a27 : Nat → Int32}
theorem zs_54 {post : St2 → Prop} {J14 : Int32 → Int32 → (Nat → Int32) → (Nat → Int32) → (Nat → Int32) → (Nat → Int32) → (Nat → Int32) → (Nat → Int32) → (Nat → Int32) → (Nat → Int32) → (Nat → Int32) → (Nat → Int32) → (Nat → Int32) → (Nat → Int32) → (Nat → Int32) → (Nat → Int32) → (Nat → Int32) → (Nat → Int32) → (Nat → Int32) → (Nat → Int32) → (Nat → Int32) → (Nat → Int32) → (Nat → Int32) → (Nat → Int32) → (Nat → Int32) → (Nat → Int32) → (Nat → Int32) → (Nat → Int32) → (Nat → Int32) →  Prop} {x1 x2 x3 : Int32} {kd : Nat} (hkd : kd < 2) : ∀ (m c : Nat) (a13 : Nat → Int32), c + m ≤ 130 → (∀ j, j < m → tk_sp x3 (nI j) = nI kd) → (∀ b13 : Nat → Int32, (∀ j, j < c → b13 j = a13 j) → (∀ j, c ≤ j → j < c + m → b13 j = nI kd) → J14 (x2 + 1) (nI (c + m)) a1 a2 a3 a4 a5 a6 a7 a8 a9 a10 a11 a12 b13 a14 a15 a16 a17 a18 a19 a20 a21 a22 a23 a24 a25 a26 a27) → wX_scan_54 post J14 x1 x2 x3 ti ac ru sz dp lo ex hei al ov (m + 1) (nI m - 1) (nI c) a1 a2 a3 a4 a5 a6 a7 a8 a9 a10 a11 a12 a13 a14 a15 a16 a17 a18 a19 a20 a21 a22 a23 a24 a25 a26 a27 := by
  intro m
  induction m with
  | zero =>
    intro c a13 hc hk H
    exact br_t (by decide) (nm_e (H a13 (fun j _ => rfl) (fun j h1 h2 => absurd h2 (by omega))))
  | succ m ih =>
    intro c a13 hc hk H
    rw [nI_pred]
    have body : wX_scan_81 post J14 (wX_scan_54 post J14 x1 x2 x3 ti ac ru sz dp lo ex hei al ov (m + 1)) x1 x2 x3 (nI m) (nI kd) (nI c) ti ac ru (nI c) sz dp lo ex hei al ov a1 a2 a3 a4 a5 a6 a7 a8 a9 a10 a11 a12 a13 a14 a15 a16 a17 a18 a19 a20 a21 a22 a23 a24 a25 a26 a27 := by
      refine ⟨vp_in_nI (by omega) (by omega), nm_r (e' := upd a13 c (nI kd)) (by rw [nI_clamp (by omega)]) (nm_r (nI_1 c) (nm_r (e' := nI m - 1) (by rw [Int32.sub_eq_add_neg]) ?_))⟩
      refine ih (c + 1) _ (by omega) (fun j hj => hk j (by omega)) (fun b13 h1 h2 => ?_)
      rw [show c + 1 + m = c + (m + 1) by omega]
      refine H b13 (fun j hj => ?_) (fun j hj1 hj2 => ?_)
      · rw [h1 j (by omega), pk_un (by omega)]
      · by_cases e : j = c
        · rw [h1 j (by omega), e, pk_us]
        · exact h2 j (by omega) (by omega)
    refine br_f (nI_pos (by omega)) (tk_sp_w ?_)
    rw [hk m (by omega)]
    have h01 : kd = 0 ∨ kd = 1 := by omega
    rcases h01 with rfl | rfl
    · exact br_t rfl body
    · exact br_f (by decide) body
theorem zs_60 (x : Int32) : (60 * (0 : Int32)) + x = x := by
  rw [show (60 * (0 : Int32)) = 0 by decide, Int32.zero_add]
theorem zs_scan {post : St2 → Prop} {k l g n : Nat} (hk : k < 3) (hl : l < 32) (hg : g < 8) (hn : n ≤ 27) (h12 : a12 0 = nI n) (h11 : ∀ j, j < n → a11 j = tk_T k l g j) (H : ∀ b13 : Nat → Int32, (∀ j, j < tk_c n → b13 j = nI (tk_w n j)) → post (ti, ac, ru, nI (tk_c n), sz, dp, lo, ex, hei, al, ov, a1, a2, a3, a4, a5, a6, a7, a8, a9, a10, a11, a12, b13, a14, a15, a16, a17, a18, a19, a20, a21, a22, a23, a24, a25, a26, a27)) : wpX_scan post (ti, ac, ru, wc, sz, dp, lo, ex, hei, al, ov, a1, a2, a3, a4, a5, a6, a7, a8, a9, a10, a11, a12, a13, a14, a15, a16, a17, a18, a19, a20, a21, a22, a23, a24, a25, a26, a27) 0 := by
  unfold wpX_scan
  refine nm_e ?_
  refine pk_loop (fun m i s => wX_scan_14 post 0 ti ac ru sz dp lo ex hei al ov m (nI i) (nI (tk_c i)) a1 a2 a3 a4 a5 a6 a7 a8 a9 a10 a11 a12 s a14 a15 a16 a17 a18 a19 a20 a21 a22 a23 a24 a25 a26 a27) (fun i s => ∀ j, j < tk_c i → s j = nI (tk_w i j)) n 0 _ (Nat.zero_le n) ?_ ?_ ?_
  · intro j hj
    have e : j = 0 := by
      have : tk_c 0 = 1 := rfl
      omega
    rw [e, pk_us]
    rfl
  · intro m s hI
    refine ⟨pk_in 0 2 (by decide), br_t ?_ (H s hI)⟩
    show a12 0 ≤ nI n
    rw [h12]
    exact nI_le (Nat.le_refl n) (by omega)
  · intro m i s hi hI hw
    have hi' : i < 27 := by omega
    obtain ⟨t1, t2, t3, t4, t5, t6, t7, t8⟩ := tk_tc i hi'
    have tw := tk_tw i hi'
    refine ⟨pk_in 0 2 (by decide), br_f ?_ ⟨?_, nm_r (e' := tk_T k l g i) ?_ (nm_r (e' := nI (tk_c i - 1)) ?_ (tk_parts_w ?_))⟩⟩
    · show ¬ a12 0 ≤ nI i
      rw [h12]
      exact nI_ge hi (by omega)
    · rw [zs_60]
      exact vp_in_nI (by omega) (by omega)
    · rw [zs_60, nI_clamp (by omega)]
      exact h11 i hi
    · rw [show tk_c i = (tk_c i - 1) + 1 by omega, nI_pred, Nat.add_sub_cancel]
    · rw [tk_parts_T hk hl hg hi']
      refine nm_e ⟨tk_np i + 1, ?_⟩
      refine zs_54 t4 (tk_np i) (tk_c i - 1) _ (by omega) (tk_sp_T hk hl hg hi') (fun b13 h1 h2 => ?_)
      rw [nI_1, t2]
      refine hw b13 (fun j hj => ?_)
      rw [tw j hj]
      by_cases e : j < tk_c i - 1
      · rw [if_pos e, h1 j e, hI j (by omega)]
      · rw [if_neg e, h2 j (by omega) (by omega)]
theorem fd_72 {post : Int32 → St2 → Prop} {t : Int32} {n : Nat} (hn : n < 27) (h12 : a12 0 = nI n) (H : post (nI (n + 1)) (ti, ac, ru, wc, sz, dp, lo, ex, hei, al, ov, a1, a2, a3, a4, a5, a6, a7, a8, a9, a10, upd a11 n t, upd a12 0 (nI (n + 1)), a13, a14, a15, a16, a17, a18, a19, a20, a21, a22, a23, a24, a25, a26, a27)) : wX_feed_72 post 0 t 1 ti ac ru wc sz dp lo ex hei al ov a1 a2 a3 a4 a5 a6 a7 a8 a9 a10 a11 a12 a13 a14 a15 a16 a17 a18 a19 a20 a21 a22 a23 a24 a25 a26 a27 := by
  refine br_f (by decide) ⟨pk_in 0 2 (by decide), ?_, nm_r (e' := upd a11 n t) ?_ ⟨pk_in 0 2 (by decide), pk_in 0 2 (by decide), nm_r (e' := upd a12 0 (nI (n + 1))) ?_ ⟨pk_in 0 2 (by decide), ?_⟩⟩⟩
  · rw [zs_60]
    show vp_in (a12 0) 120
    rw [h12]
    exact vp_in_nI (by omega) (by omega)
  · rw [zs_60]
    show upd a11 (a12 0).toNatClampNeg t = _
    rw [h12, nI_clamp (by omega)]
  · show upd a12 0 (a12 0 + 1) = _
    rw [h12, nI_1]
  · exact H
theorem fd_feed {post : Int32 → St2 → Prop} {k l g n : Nat} {t : Int32} (hk : k < 3) (hl : l < 32) (hg : g < 8) (hn : n < 27) (hr : ru = 0) (h12 : a12 0 = nI n) (h11 : ∀ j, j < n → a11 j = tk_T k l g j) (ht : t = tk_T k l g n) (H : ∀ (wb : Int32) (b11 b12 b13 : Nat → Int32), b12 0 = nI (n + 1) → (∀ j, j < n + 1 → b11 j = tk_T k l g j) → post (nI (n + 1)) (ti, ac, ru, wb, sz, dp, lo, ex, hei, al, ov, a1, a2, a3, a4, a5, a6, a7, a8, a9, a10, b11, b12, b13, a14, a15, a16, a17, a18, a19, a20, a21, a22, a23, a24, a25, a26, a27)) : wpX_feed post (ti, ac, ru, wc, sz, dp, lo, ex, hei, al, ov, a1, a2, a3, a4, a5, a6, a7, a8, a9, a10, a11, a12, a13, a14, a15, a16, a17, a18, a19, a20, a21, a22, a23, a24, a25, a26, a27) 0 t := by
  obtain ⟨t1, t2, t3, t4, t5, t6, t7, t8⟩ := tk_tc n hn
  unfold wpX_feed
  refine br_t rfl (br_f (by decide) (br_t hr (br_t rfl ?_)))
  refine zs_scan hk hl hg (Nat.le_of_lt hn) h12 h11 (fun b13 hw => ?_)
  have hq : post (nI (n + 1)) (ti, ac, ru, nI (tk_c n), sz, dp, lo, ex, hei, al, ov, a1, a2, a3, a4, a5, a6, a7, a8, a9, a10, upd a11 n t, upd a12 0 (nI (n + 1)), b13, a14, a15, a16, a17, a18, a19, a20, a21, a22, a23, a24, a25, a26, a27) := by
    refine H _ _ _ _ pk_us (fun j hj => ?_)
    by_cases e : j = n
    · rw [e, pk_us, ht]
    · rw [pk_un e]
      exact h11 j (by omega)
  have hf : wX_feed_72 post 0 t 1 ti ac ru (nI (tk_c n)) sz dp lo ex hei al ov a1 a2 a3 a4 a5 a6 a7 a8 a9 a10 a11 a12 b13 a14 a15 a16 a17 a18 a19 a20 a21 a22 a23 a24 a25 a26 a27 := fd_72 hn h12 hq
  refine br_f (nI_ne0 (by omega) (by omega)) ⟨pk_in 0 2 (by decide), br_t ?_ ⟨?_, ?_⟩⟩
  · show a12 0 < 60
    rw [h12]
    exact nI_lt (b := 60) (by omega) (by decide)
  · rw [show tk_c n = (tk_c n - 1) + 1 by omega, nI_pred]
    exact vp_in_nI (by omega) (by omega)
  · have e13 : b13 (nI (tk_c n) - 1).toNatClampNeg = nI (tk_sm n) := by
      rw [show tk_c n = (tk_c n - 1) + 1 by omega, nI_pred, nI_clamp (by omega), hw _ (by omega), t5]
    rw [e13]
    have h01 : tk_sm n = 0 ∨ tk_sm n = 1 := by omega
    rcases h01 with e | e
    · refine br_f (by rw [e]; decide) (tk_ex_w ?_)
      rw [ht, tk_ex_T hk hl hg hn, e, ← ht]
      exact hf
    · refine br_t (by rw [e]; rfl) (tk_st_w ?_)
      rw [ht, tk_st_T hk hl hg hn, e, ← ht]
      exact hf
theorem fd_isC {post : Int32 → St2 → Prop} {k l g : Nat} (hk : k < 3) (hl : l < 32) (hg : g < 8) (h12 : a12 0 = nI 27) (h11 : ∀ j, j < 27 → a11 j = tk_T k l g j) (H : ∀ (b13 : Nat → Int32), post 1 (ti, ac, ru, nI 0, sz, dp, lo, ex, hei, al, ov, a1, a2, a3, a4, a5, a6, a7, a8, a9, a10, a11, a12, b13, a14, a15, a16, a17, a18, a19, a20, a21, a22, a23, a24, a25, a26, a27)) : wpX_isComplete post (ti, ac, ru, wc, sz, dp, lo, ex, hei, al, ov, a1, a2, a3, a4, a5, a6, a7, a8, a9, a10, a11, a12, a13, a14, a15, a16, a17, a18, a19, a20, a21, a22, a23, a24, a25, a26, a27) 0 := by
  unfold wpX_isComplete
  refine zs_scan hk hl hg (Nat.le_refl 27) h12 h11 (fun b13 _ => ?_)
  exact br_t rfl (H b13)
theorem fd_complete {post : Int32 → St2 → Prop} {k l g : Nat} (hk : k < 3) (hl : l < 32) (hg : g < 8) (h12 : a12 0 = nI 27) (h11 : ∀ j, j < 27 → a11 j = tk_T k l g j) (H : ∀ (b13 : Nat → Int32), post 1 (ti, ac, ru, nI 0, sz, dp, lo, ex, hei, al, ov, a1, a2, a3, a4, a5, a6, a7, a8, a9, a10, a11, a12, b13, a14, a15, a16, a17, a18, a19, a20, a21, a22, a23, a24, a25, a26, a27)) : wpX_complete post (ti, ac, ru, wc, sz, dp, lo, ex, hei, al, ov, a1, a2, a3, a4, a5, a6, a7, a8, a9, a10, a11, a12, a13, a14, a15, a16, a17, a18, a19, a20, a21, a22, a23, a24, a25, a26, a27) 0 := by
  unfold wpX_complete
  refine br_t rfl (br_f (by decide) ?_)
  refine fd_isC hk hl hg h12 h11 (fun b13 => ?_)
  exact br_f (by decide) (H b13)
end
end
section
/-! measure, partAt, enter, emit, expression, statement -/
section
variable {ti ac ru wc sz dp lo ex hei al ov : Int32} {a1 a2 a3 a4 a5 a6 a7 a8 a9 a10 a11 a12 a13 a14 a15 a16 a17 a18 a19 a20 a21 a22 a23 a24 a25 a26 a27 : Nat → Int32}
theorem ms_30 {post : St2 → Prop} {J12 : Int32 → (Nat → Int32) → (Nat → Int32) → (Nat → Int32) → (Nat → Int32) → (Nat → Int32) → (Nat → Int32) → (Nat → Int32) → (Nat → Int32) → (Nat → Int32) → (Nat → Int32) → (Nat → Int32) → (Nat → Int32) → (Nat → Int32) → (Nat → Int32) → (Nat → Int32) → (Nat → Int32) → (Nat → Int32) → (Nat → Int32) → (Nat → Int32) → (Nat → Int32) → (Nat → Int32) → (Nat → Int32) → (Nat → Int32) → (Nat → Int32) → (Nat → Int32) → (Nat → Int32) → (Nat → Int32) →  Prop} {i : Nat} (hi : i < 27) (hs : ∀ j, i < j → j < 27 → a14 j = nI (tk_sn j)) (H : J12 (nI i - 1) a1 a2 a3 a4 a5 a6 a7 a8 a9 a10 a11 a12 a13 (upd a14 i (nI (tk_sn i))) a15 a16 a17 a18 a19 a20 a21 a22 a23 a24 a25 a26 a27) : ∃ n, wX_measure_30 post J12 (nI i) (nI (tk_np i)) ti ac ru wc sz dp lo ex hei al ov a1 a2 a3 a4 a5 a6 a7 a8 a9 a10 a11 a12 a13 a14 a15 a16 a17 a18 a19 a20 a21 a22 a23 a24 a25 a26 a27 n 1 0 := by
  obtain ⟨q1, q2, q3⟩ := tk_tq i hi
  refine Exists.elim (pk_loop (σ := Unit) (fun m j _ => wX_measure_30 post J12 (nI i) (nI (tk_np i)) ti ac ru wc sz dp lo ex hei al ov a1 a2 a3 a4 a5 a6 a7 a8 a9 a10 a11 a12 a13 a14 a15 a16 a17 a18 a19 a20 a21 a22 a23 a24 a25 a26 a27 m (nI (tk_pa i j)) (nI j)) (fun _ _ => True) (tk_np i) 0 () (Nat.zero_le _) trivial ?_ ?_) (fun m hm => ?_)
  rotate_left 2
  · have hm' : wX_measure_30 post J12 (nI i) (nI (tk_np i)) ti ac ru wc sz dp lo ex hei al ov a1 a2 a3 a4 a5 a6 a7 a8 a9 a10 a11 a12 a13 a14 a15 a16 a17 a18 a19 a20 a21 a22 a23 a24 a25 a26 a27 m (nI (tk_pa i 0)) (nI 0) := hm
    rw [q1] at hm'
    exact ⟨m, hm'⟩
  · intro m _ _
    have t7 := (tk_tc i hi).2.2.2.2.2.2.1
    refine br_t (nI_le (Nat.le_refl _) (by omega)) ⟨vp_in_nI (by omega) (by omega), nm_r (e' := upd a14 i (nI (tk_sn i))) ?_ (nm_r (e' := nI i - 1) (by rw [Int32.sub_eq_add_neg]) H)⟩
    rw [nI_clamp (by omega), q2]
  · intro m j _ hj _ hw
    have t7 := (tk_tc i hi).2.2.2.2.2.2.1
    obtain ⟨p1, p2, p3⟩ := tk_tp i hi j hj
    refine br_f (nI_ge hj (by omega)) ⟨?_, nm_r (e' := nI (tk_pa i (j + 1))) ?_ (nm_r (nI_1 j) (hw () trivial))⟩
    · rw [nI_add]
      exact vp_in_nI (by omega) (by omega)
    · rw [nI_add, nI_clamp (by omega), hs _ (by omega) p2, nI_add, p3]
theorem ms_12 {post : St2 → Prop} {k l g : Nat} (hk : k < 3) (hl : l < 32) (hg : g < 8) (h11 : ∀ j, j < 27 → a11 j = tk_T k l g j) (H : ∀ b14 : Nat → Int32, (∀ j, j < 27 → b14 j = nI (tk_sn j)) → post (ti, 0, ru, wc, sz, dp, lo, ex, hei, al, ov, a1, a2, a3, a4, a5, a6, a7, a8, a9, a10, a11, a12, a13, b14, a15, a16, a17, a18, a19, a20, a21, a22, a23, a24, a25, a26, a27)) : ∀ (i : Nat) (a14 : Nat → Int32), i ≤ 27 → (∀ j, i ≤ j → j < 27 → a14 j = nI (tk_sn j)) → wX_measure_12 post ti 0 ru wc sz dp lo ex hei al ov (i + 1) (nI i - 1) a1 a2 a3 a4 a5 a6 a7 a8 a9 a10 a11 a12 a13 a14 a15 a16 a17 a18 a19 a20 a21 a22 a23 a24 a25 a26 a27 := by
  intro i
  induction i with
  | zero =>
    intro a14 hi hs
    exact br_t (by decide) (H a14 (fun j hj => hs j (Nat.zero_le j) hj))
  | succ i ih =>
    intro a14 hi hs
    rw [nI_pred]
    refine br_f (nI_pos (by omega)) ⟨?_, tk_parts_w ?_⟩
    · rw [zs_60]
      exact vp_in_nI (by omega) (by omega)
    · rw [zs_60, nI_clamp (by omega), h11 i (by omega), tk_parts_T hk hl hg (by omega)]
      refine ms_30 (by omega) (fun j h1 h2 => hs j (by omega) h2) (ih _ (by omega) (fun j h1 h2 => ?_))
      by_cases e : j = i
      · rw [e, pk_us]
      · rw [pk_un e]
        exact hs j (by omega) h2
theorem ms_measure {post : St2 → Prop} {k l g : Nat} (hk : k < 3) (hl : l < 32) (hg : g < 8) (h12 : a12 0 = nI 27) (h11 : ∀ j, j < 27 → a11 j = tk_T k l g j) (H : ∀ b14 : Nat → Int32, (∀ j, j < 27 → b14 j = nI (tk_sn j)) → post (ti, 0, ru, wc, sz, dp, lo, ex, hei, al, ov, a1, a2, a3, a4, a5, a6, a7, a8, a9, a10, a11, a12, a13, b14, a15, a16, a17, a18, a19, a20, a21, a22, a23, a24, a25, a26, a27)) : wpX_measure post (ti, 0, ru, wc, sz, dp, lo, ex, hei, al, ov, a1, a2, a3, a4, a5, a6, a7, a8, a9, a10, a11, a12, a13, a14, a15, a16, a17, a18, a19, a20, a21, a22, a23, a24, a25, a26, a27) := by
  unfold wpX_measure
  refine ⟨pk_in 0 2 (by decide), nm_r (e' := nI 27 - 1) ?_ ⟨27 + 1, ms_12 hk hl hg h11 H 27 a14 (Nat.le_refl 27) (fun j h1 h2 => absurd h2 (by omega))⟩⟩
  show a12 0 - 1 = _
  rw [h12]
theorem pt_at {post : Int32 → Prop} {i ph : Nat} (hi : i < 27) (hp : ph < tk_np i) (hs : ∀ j, j < 27 → a14 j = nI (tk_sn j)) (H : post (nI (i + tk_pa i ph))) : wpX_partAt post (ti, ac, ru, wc, sz, dp, lo, ex, hei, al, ov, a1, a2, a3, a4, a5, a6, a7, a8, a9, a10, a11, a12, a13, a14, a15, a16, a17, a18, a19, a20, a21, a22, a23, a24, a25, a26, a27) (nI i) (nI ph) := by
  obtain ⟨q1, q2, q3⟩ := tk_tq i hi
  have t7 := (tk_tc i hi).2.2.2.2.2.2.1
  unfold wpX_partAt
  refine nm_r (e' := nI (i + tk_pa i 0)) (by rw [nI_1, q1]) ?_
  refine pk_loop (σ := Unit) (fun m j _ => wX_partAt_7 post (nI ph) ti ac ru wc sz dp lo ex hei al ov a1 a2 a3 a4 a5 a6 a7 a8 a9 a10 a11 a12 a13 a14 a15 a16 a17 a18 a19 a20 a21 a22 a23 a24 a25 a26 a27 m (nI (i + tk_pa i j)) (nI j)) (fun _ _ => True) ph 0 () (Nat.zero_le _) trivial ?_ ?_
  · intro m _ _
    exact br_t (nI_le (Nat.le_refl _) (by omega)) H
  · intro m j _ hj _ hw
    obtain ⟨p1, p2, p3⟩ := tk_tp i hi j (by omega)
    refine br_f (nI_ge hj (by omega)) ⟨vp_in_nI (by omega) (by omega), nm_r (e' := nI (i + tk_pa i (j + 1))) ?_ (nm_r (nI_1 j) (hw () trivial))⟩
    rw [nI_clamp (by omega), hs _ p2, nI_add, ← p3, Nat.add_assoc]
theorem en_enter {post : St2 → Prop} {p : Int32} {d : Nat} (hd : d < 64) (H : post (ti, ac, ru, wc, sz, nI (d + 1), lo, ex, hei, al, ov, a1, a2, a3, a4, a5, a6, a7, a8, a9, a10, a11, a12, a13, a14, a15, a16, a17, upd a18 d p, upd a19 d 0, a20, a21, a22, a23, a24, a25, a26, a27)) : wpX_enter post (ti, ac, ru, wc, sz, nI d, lo, ex, hei, al, ov, a1, a2, a3, a4, a5, a6, a7, a8, a9, a10, a11, a12, a13, a14, a15, a16, a17, a18, a19, a20, a21, a22, a23, a24, a25, a26, a27) p := by
  unfold wpX_enter
  exact ⟨vp_in_nI hd (by omega), nm_r (e' := upd a18 d p) (by rw [nI_clamp (by omega)]) ⟨vp_in_nI hd (by omega), nm_r (e' := upd a19 d 0) (by rw [nI_clamp (by omega)]) (nm_r (nI_1 d) H)⟩⟩
theorem em_emit {post : Int32 → St2 → Prop} {p q : Int32} {z : Nat} (hz : z < 400) (H : post (nI z) (ti, ac, ru, wc, nI (z + 1), dp, lo, ex, hei, al, ov, a1, a2, a3, a4, a5, a6, a7, a8, a9, a10, a11, a12, a13, a14, upd a15 z p, upd a16 z q, upd a17 z (nI z), a18, a19, a20, a21, a22, a23, a24, a25, a26, a27)) : wpX_emit post (ti, ac, ru, wc, nI z, dp, lo, ex, hei, al, ov, a1, a2, a3, a4, a5, a6, a7, a8, a9, a10, a11, a12, a13, a14, a15, a16, a17, a18, a19, a20, a21, a22, a23, a24, a25, a26, a27) p q := by
  unfold wpX_emit
  refine br_f (nI_ge (b := 400) hz (by decide)) ⟨vp_in_nI hz (by omega), nm_r (e' := upd a15 z p) (by rw [nI_clamp (by omega)]) ⟨vp_in_nI hz (by omega), nm_r (e' := upd a16 z q) (by rw [nI_clamp (by omega)]) ⟨vp_in_nI hz (by omega), nm_r (e' := upd a17 z (nI z)) (by rw [nI_clamp (by omega)]) (nm_r (nI_1 z) ?_)⟩⟩⟩
  rw [nI_pred]
  exact H
theorem ex_skip {post : St2 → Prop} {t : Int32} {ph n : Nat} (h : ph < n) (hn : n ≤ 3) (H : post (ti, ac, ru, wc, sz, dp, lo, ex, hei, al, ov, a1, a2, a3, a4, a5, a6, a7, a8, a9, a10, a11, a12, a13, a14, a15, a16, a17, a18, a19, a20, a21, a22, a23, a24, a25, a26, a27)) : wpX_expression post (ti, ac, ru, wc, sz, dp, lo, ex, hei, al, ov, a1, a2, a3, a4, a5, a6, a7, a8, a9, a10, a11, a12, a13, a14, a15, a16, a17, a18, a19, a20, a21, a22, a23, a24, a25, a26, a27) t (nI ph) (nI n) := by
  unfold wpX_expression
  exact br_f (nI_ge h (by omega)) H
theorem ex_num {post : St2 → Prop} {t : Int32} {n z : Nat} (hz : z < 400) (hn : n ≤ 3) (ht : tk_isIn t 210 81 = nI 1) (H : post (ti, ac, ru, wc, nI (z + 1), dp, lo, ex, hei, al, ov, a1, a2, a3, a4, a5, a6, a7, a8, a9, a10, a11, a12, a13, a14, upd a15 z 300, upd a16 z (t - 250), upd a17 z (nI z), a18, a19, a20, a21, a22, a23, a24, a25, a26, a27)) : wpX_expression post (ti, ac, ru, wc, nI z, dp, lo, ex, hei, al, ov, a1, a2, a3, a4, a5, a6, a7, a8, a9, a10, a11, a12, a13, a14, a15, a16, a17, a18, a19, a20, a21, a22, a23, a24, a25, a26, a27) t (nI n) (nI n) := by
  unfold wpX_expression
  refine br_t (nI_le (Nat.le_refl _) (by omega)) (tk_isIn_w ?_)
  rw [ht]
  exact br_f (by decide) (em_emit hz H)
theorem kn_0 {post : Int32 → Prop} {n z : Nat} (hz : z < 400) (h : n = 0 ∨ (n = 2 ∧ 2 ≤ z ∧ (a15 (z - 1) ≠ 300 ∨ a15 (z - 2) ≠ 300))) (H : post 0) : wpX_isKnown post (ti, ac, ru, wc, nI z, dp, lo, ex, hei, al, ov, a1, a2, a3, a4, a5, a6, a7, a8, a9, a10, a11, a12, a13, a14, a15, a16, a17, a18, a19, a20, a21, a22, a23, a24, a25, a26, a27) (nI n) := by
  unfold wpX_isKnown
  rcases h with rfl | ⟨rfl, h2, h3⟩
  · exact ⟨1, br_t (by decide) (br_t (by decide) H)⟩
  · have e1 : nI z - 1 = nI (z - 1) := pk_sub (b := 1) (by omega)
    have e2 : nI z - (1 + 1) = nI (z - 2) := pk_sub (b := 2) (by omega)
    by_cases hc : a15 (z - 1) = 300
    · have hd : a15 (z - 2) ≠ 300 := by
        rcases h3 with h3 | h3
        · exact absurd hc h3
        · exact h3
      refine ⟨2, br_f (by decide) (br_f ?_ ⟨?_, br_t ?_ (nm_e (br_f (by decide) (br_f ?_ ⟨?_, br_f ?_ H⟩)))⟩)⟩
      · rw [e1]
        exact nI_pos (by omega)
      · rw [e1]
        exact vp_in_nI (by omega) (by omega)
      · rw [e1, nI_clamp (by omega)]
        exact hc
      · rw [e2]
        exact nI_pos (by omega)
      · rw [e2]
        exact vp_in_nI (by omega) (by omega)
      · rw [e2, nI_clamp (by omega)]
        exact hd
    · refine ⟨1, br_f (by decide) (br_f ?_ ⟨?_, br_f ?_ H⟩)⟩
      · rw [e1]
        exact nI_pos (by omega)
      · rw [e1]
        exact vp_in_nI (by omega) (by omega)
      · rw [e1, nI_clamp (by omega)]
        exact hc
theorem ex_op {post : St2 → Prop} {t : Int32} {n z : Nat} (hz : z < 400) (hn : n ≤ 3) (ht : tk_isIn t 210 81 = nI 0) (hk : n = 0 ∨ (n = 2 ∧ 2 ≤ z ∧ (a15 (z - 1) ≠ 300 ∨ a15 (z - 2) ≠ 300))) (H : post (ti, ac, ru, wc, nI (z + 1), dp, lo, ex, hei, al, ov, a1, a2, a3, a4, a5, a6, a7, a8, a9, a10, a11, a12, a13, a14, upd a15 z t, upd a16 z 0, upd a17 z (nI z), a18, a19, a20, a21, a22, a23, a24, a25, a26, a27)) : wpX_expression post (ti, ac, ru, wc, nI z, dp, lo, ex, hei, al, ov, a1, a2, a3, a4, a5, a6, a7, a8, a9, a10, a11, a12, a13, a14, a15, a16, a17, a18, a19, a20, a21, a22, a23, a24, a25, a26, a27) t (nI n) (nI n) := by
  unfold wpX_expression
  refine br_t (nI_le (Nat.le_refl _) (by omega)) (tk_isIn_w ?_)
  rw [ht]
  refine br_t rfl (kn_0 hz hk (br_t rfl ?_))
  unfold wX_expression_87
  exact em_emit hz H
theorem st_head {post : St2 → Prop} {t p0 p2 p3 : Int32} (h1 : t ≠ 35) (h2 : t ≠ 56) (h3 : t ≠ 36) (h4 : t ≠ 37) (h5 : tk_isIn t 40 16 = 0) (h6 : t ≠ 39) (H : (t = 1 → post (ti, ac, ru, wc, sz, dp, lo, ex, hei, al, ov, a1, a2, a3, a4, a5, a6, a7, a8, a9, a10, a11, a12, a13, a14, a15, a16, a17, a18, a19, a20, a21, a22, a23, a24, a25, a26, a27)) ∧ (¬ t = 1 → ((t = 2 → post (ti, ac, ru, wc, sz, dp, lo, ex, hei, al, ov, a1, a2, a3, a4, a5, a6, a7, a8, a9, a10, a11, a12, a13, a14, a15, a16, a17, a18, a19, a20, a21, a22, a23, a24, a25, a26, a27)) ∧ (¬ t = 2 → ((p2 = tk_parts t → wpX_emit (fun r u => match u with | (ti_q, ac_q, ru_q, wc_q, sz_q, dp_q, lo_q, ex_q, hei_q, al_q, ov_q, a1_q, a2_q, a3_q, a4_q, a5_q, a6_q, a7_q, a8_q, a9_q, a10_q, a11_q, a12_q, a13_q, a14_q, a15_q, a16_q, a17_q, a18_q, a19_q, a20_q, a21_q, a22_q, a23_q, a24_q, a25_q, a26_q, a27_q) => post (ti_q, ac_q, ru_q, wc_q, sz_q, dp_q, lo_q, ex_q, hei_q, al_q, ov_q, a1_q, a2_q, a3_q, a4_q, a5_q, a6_q, a7_q, a8_q, a9_q, a10_q, a11_q, a12_q, a13_q, a14_q, a15_q, a16_q, a17_q, a18_q, a19_q, a20_q, a21_q, a22_q, a23_q, a24_q, a25_q, a26_q, a27_q)) (ti, ac, ru, wc, sz, dp, lo, ex, hei, al, ov, a1, a2, a3, a4, a5, a6, a7, a8, a9, a10, a11, a12, a13, a14, a15, a16, a17, a18, a19, a20, a21, a22, a23, a24, a25, a26, a27) t 0) ∧ (¬ p2 = tk_parts t → post (ti, ac, ru, wc, sz, dp, lo, ex, hei, al, ov, a1, a2, a3, a4, a5, a6, a7, a8, a9, a10, a11, a12, a13, a14, a15, a16, a17, a18, a19, a20, a21, a22, a23, a24, a25, a26, a27))))))) : wpX_statement post (ti, ac, ru, wc, sz, dp, lo, ex, hei, al, ov, a1, a2, a3, a4, a5, a6, a7, a8, a9, a10, a11, a12, a13, a14, a15, a16, a17, a18, a19, a20, a21, a22, a23, a24, a25, a26, a27) p0 t p2 p3 := by
  unfold wpX_statement
  refine tk_parts_w (br_f h1 (br_f h2 (br_f h3 (br_f h4 (tk_isIn_w ?_)))))
  rw [h5]
  exact br_t rfl (br_f h6 H)
theorem st_seq {post : St2 → Prop} {p0 p2 p3 : Int32} (H : post (ti, ac, ru, wc, sz, dp, lo, ex, hei, al, ov, a1, a2, a3, a4, a5, a6, a7, a8, a9, a10, a11, a12, a13, a14, a15, a16, a17, a18, a19, a20, a21, a22, a23, a24, a25, a26, a27)) : wpX_statement post (ti, ac, ru, wc, sz, dp, lo, ex, hei, al, ov, a1, a2, a3, a4, a5, a6, a7, a8, a9, a10, a11, a12, a13, a14, a15, a16, a17, a18, a19, a20, a21, a22, a23, a24, a25, a26, a27) p0 1 p2 p3 :=
  st_head (by decide) (by decide) (by decide) (by decide) (by decide) (by decide) (br_t rfl H)
theorem st_skip {post : St2 → Prop} {t p0 p3 : Int32} {ph n : Nat} (h1 : t ≠ 35) (h2 : t ≠ 56) (h3 : t ≠ 36) (h4 : t ≠ 37) (h5 : tk_isIn t 40 16 = 0) (h6 : t ≠ 39) (h7 : t ≠ 2) (h8 : t ≠ 1) (hn : n ≤ 3) (hp : ph < n) (ht : tk_parts t = nI n) (H : post (ti, ac, ru, wc, sz, dp, lo, ex, hei, al, ov, a1, a2, a3, a4, a5, a6, a7, a8, a9, a10, a11, a12, a13, a14, a15, a16, a17, a18, a19, a20, a21, a22, a23, a24, a25, a26, a27)) : wpX_statement post (ti, ac, ru, wc, sz, dp, lo, ex, hei, al, ov, a1, a2, a3, a4, a5, a6, a7, a8, a9, a10, a11, a12, a13, a14, a15, a16, a17, a18, a19, a20, a21, a22, a23, a24, a25, a26, a27) p0 t (nI ph) p3 := by
  refine st_head h1 h2 h3 h4 h5 h6 (br_f h8 (br_f h7 (br_f ?_ H)))
  rw [ht]
  exact fun e => absurd ((nI_eq (by omega) (by omega)).mp e) (by omega)
theorem st_emit {post : St2 → Prop} {t p0 p3 : Int32} {n z : Nat} (hz : z < 400) (h1 : t ≠ 35) (h2 : t ≠ 56) (h3 : t ≠ 36) (h4 : t ≠ 37) (h5 : tk_isIn t 40 16 = 0) (h6 : t ≠ 39) (h7 : t ≠ 2) (h8 : t ≠ 1) (ht : tk_parts t = nI n) (H : post (ti, ac, ru, wc, nI (z + 1), dp, lo, ex, hei, al, ov, a1, a2, a3, a4, a5, a6, a7, a8, a9, a10, a11, a12, a13, a14, upd a15 z t, upd a16 z 0, upd a17 z (nI z), a18, a19, a20, a21, a22, a23, a24, a25, a26, a27)) : wpX_statement post (ti, ac, ru, wc, nI z, dp, lo, ex, hei, al, ov, a1, a2, a3, a4, a5, a6, a7, a8, a9, a10, a11, a12, a13, a14, a15, a16, a17, a18, a19, a20, a21, a22, a23, a24, a25, a26, a27) p0 t (nI n) p3 := by
  refine st_head h1 h2 h3 h4 h5 h6 (br_f h8 (br_f h7 (br_t ht.symm ?_)))
  exact em_emit hz H
theorem ld_70 {post : St2 → Prop} {J2 : Int32 → (Nat → Int32) → (Nat → Int32) → (Nat → Int32) → (Nat → Int32) → (Nat → Int32) → (Nat → Int32) → (Nat → Int32) → (Nat → Int32) → (Nat → Int32) → (Nat → Int32) → (Nat → Int32) → (Nat → Int32) → (Nat → Int32) → (Nat → Int32) → (Nat → Int32) → (Nat → Int32) → (Nat → Int32) → (Nat → Int32) → (Nat → Int32) → (Nat → Int32) → (Nat → Int32) → (Nat → Int32) → (Nat → Int32) → (Nat → Int32) → (Nat → Int32) → (Nat → Int32) → (Nat → Int32) →  Prop} {i : Nat} {x2 : Int32} (hi : i < 400) (hj : tk_ju (a15 i) = 0) (H : ∀ b17 : Nat → Int32, J2 (nI (i + 1)) a1 a2 a3 a4 a5 a6 a7 a8 a9 a10 a11 a12 a13 a14 a15 a16 b17 a18 a19 a20 a21 a22 a23 a24 a25 a26 a27) : wX_leadOn_70 post J2 (nI i) x2 ti ac ru wc sz dp lo ex hei al ov a1 a2 a3 a4 a5 a6 a7 a8 a9 a10 a11 a12 a13 a14 a15 a16 a17 a18 a19 a20 a21 a22 a23 a24 a25 a26 a27 := by
  refine ⟨vp_in_nI hi (by omega), tk_ju_w ?_⟩
  rw [nI_clamp (by omega), hj]
  exact br_t rfl ⟨vp_in_nI hi (by omega), vp_in_nI hi (by omega), nm_e (nm_r (nI_1 i) (H _))⟩
theorem ld_on {post : St2 → Prop} {z : Nat} (hz : z ≤ 400) (hj : ∀ j, j < z → tk_ju (a15 j) = 0) (H : ∀ b17 : Nat → Int32, post (ti, ac, ru, wc, nI z, dp, lo, ex, hei, al, ov, a1, a2, a3, a4, a5, a6, a7, a8, a9, a10, a11, a12, a13, a14, a15, a16, b17, a18, a19, a20, a21, a22, a23, a24, a25, a26, a27)) : wpX_leadOn post (ti, ac, ru, wc, nI z, dp, lo, ex, hei, al, ov, a1, a2, a3, a4, a5, a6, a7, a8, a9, a10, a11, a12, a13, a14, a15, a16, a17, a18, a19, a20, a21, a22, a23, a24, a25, a26, a27) := by
  unfold wpX_leadOn
  refine pk_loop (fun m i s => wX_leadOn_2 post ti ac ru wc (nI z) dp lo ex hei al ov m (nI i) a1 a2 a3 a4 a5 a6 a7 a8 a9 a10 a11 a12 a13 a14 a15 a16 s a18 a19 a20 a21 a22 a23 a24 a25 a26 a27) (fun _ _ => True) z 0 _ (Nat.zero_le z) trivial ?_ ?_
  · intro m s _
    exact br_t (nI_le (Nat.le_refl _) (by omega)) (H s)
  · intro m i s hi _ hw
    refine br_f (nI_ge hi (by omega)) ⟨vp_in_nI (by omega) (by omega), nm_e ⟨1, br_f (by decide) ⟨vp_in_nI (by omega) (by omega), tk_ju_w ?_⟩⟩⟩
    rw [nI_clamp (by omega), hj i hi]
    exact br_t rfl (ld_70 (by omega) (hj i hi) (fun b17 => hw b17 trivial))
end
end
section
/-! the loop of compile, step by step over a plain stack; activate -/
def cd_op (k l g z : Nat) : Int32 := if z = 23 then 311 else if tk_nu (tk_or z) = 1 then 300 else tk_T k l g (tk_or z)
def cd_ar (k l g z : Nat) : Int32 := if z = 23 then 0 else if tk_nu (tk_or z) = 1 then tk_T k l g (tk_or z) - 250 else 0
def cp_R (a18 a19 : Nat → Int32) : List (Nat × Nat) → Prop
  | [] => True
  | p :: r => a18 r.length = nI p.1 ∧ a19 r.length = nI p.2 ∧ cp_R a18 a19 r
theorem cp_up {a18 a19 : Nat → Int32} {d e : Nat} {x y : Int32} : ∀ s : List (Nat × Nat), s.length ≤ d → s.length ≤ e → cp_R a18 a19 s → cp_R (upd a18 d x) (upd a19 e y) s := by
  intro s
  induction s with
  | nil => exact fun _ _ _ => trivial
  | cons p r ih =>
    intro h1 h2 h
    have h1' : r.length + 1 ≤ d := h1
    have h2' : r.length + 1 ≤ e := h2
    exact ⟨by rw [pk_un (by omega)]; exact h.1, by rw [pk_un (by omega)]; exact h.2.1, ih (by omega) (by omega) h.2.2⟩
theorem cp_up9 {a18 a19 : Nat → Int32} {e : Nat} {y : Int32} : ∀ s : List (Nat × Nat), s.length ≤ e → cp_R a18 a19 s → cp_R a18 (upd a19 e y) s := by
  intro s
  induction s with
  | nil => exact fun _ _ => trivial
  | cons p r ih =>
    intro h2 h
    have h2' : r.length + 1 ≤ e := h2
    exact ⟨h.1, by rw [pk_un (by omega)]; exact h.2.1, ih (by omega) h.2.2⟩
def cp_kn (i z : Nat) : Bool := tk_np i == 0 || (tk_np i == 2 && decide (2 ≤ z) && (tk_nu (tk_or (z - 1)) == 0 || tk_nu (tk_or (z - 2)) == 0))
def cp_ok : Nat → List (Nat × Nat) → Nat → Bool
  | 0, [], z => z == 23
  | 0, _ :: _, _ => false
  | _ + 1, [], _ => false
  | m + 1, p :: r, z => decide (p.1 < 27) && decide (p.2 ≤ tk_np p.1) && decide (r.length < 60) && (if p.2 < tk_np p.1 then cp_ok m ((p.1 + tk_pa p.1 p.2, 0) :: (p.1, p.2 + 1) :: r) z else if tk_kd p.1 = 1 then cp_ok m r z else decide (z < 23) && (tk_or z == p.1) && (tk_sm p.1 == 1 || cp_kn p.1 z) && cp_ok m r (z + 1))
theorem cp_all : cp_ok 53 [(0, 0)] 0 = true := by decide +kernel
theorem cp_sq : ∀ i, i < 27 → tk_kd i = 1 → tk_sm i = 1 := by decide +kernel
section
variable {ti ac ru wc sz dp lo ex hei al ov : Int32} {a1 a2 a3 a4 a5 a6 a7 a8 a9 a10 a11 a12 a13 a14 a15 a16 a17 a18 a19 a20 a21 a22 a23 a24 a25 a26 a27 : Nat → Int32}
theorem cp_143 {post : St2 → Prop} {J29 : Int32 → Int32 → Int32 → Int32 → Int32 → Int32 → Int32 → Int32 → Int32 → Int32 → Int32 → (Nat → Int32) → (Nat → Int32) → (Nat → Int32) → (Nat → Int32) → (Nat → Int32) → (Nat → Int32) → (Nat → Int32) → (Nat → Int32) → (Nat → Int32) → (Nat → Int32) → (Nat → Int32) → (Nat → Int32) → (Nat → Int32) → (Nat → Int32) → (Nat → Int32) → (Nat → Int32) → (Nat → Int32) → (Nat → Int32) → (Nat → Int32) → (Nat → Int32) → (Nat → Int32) → (Nat → Int32) → (Nat → Int32) → (Nat → Int32) → (Nat → Int32) → (Nat → Int32) → (Nat → Int32) →  Prop} {d : Nat} (H : J29 ti ac ru wc sz (nI d) lo ex hei al ov a1 a2 a3 a4 a5 a6 a7 a8 a9 a10 a11 a12 a13 a14 a15 a16 a17 a18 a19 a20 a21 a22 a23 a24 a25 a26 a27) : wX_compile_143 post J29 (nI d) ti ac ru wc sz (nI (d + 1)) lo ex hei al ov a1 a2 a3 a4 a5 a6 a7 a8 a9 a10 a11 a12 a13 a14 a15 a16 a17 a18 a19 a20 a21 a22 a23 a24 a25 a26 a27 := by
  unfold wX_compile_143
  exact br_t (nI_succ d) (nm_r (nI_pred d) H)
theorem cp_pop {post : St2 → Prop} {J29 : Int32 → Int32 → Int32 → Int32 → Int32 → Int32 → Int32 → Int32 → Int32 → Int32 → Int32 → (Nat → Int32) → (Nat → Int32) → (Nat → Int32) → (Nat → Int32) → (Nat → Int32) → (Nat → Int32) → (Nat → Int32) → (Nat → Int32) → (Nat → Int32) → (Nat → Int32) → (Nat → Int32) → (Nat → Int32) → (Nat → Int32) → (Nat → Int32) → (Nat → Int32) → (Nat → Int32) → (Nat → Int32) → (Nat → Int32) → (Nat → Int32) → (Nat → Int32) → (Nat → Int32) → (Nat → Int32) → (Nat → Int32) → (Nat → Int32) → (Nat → Int32) → (Nat → Int32) → (Nat → Int32) →  Prop} {d n : Nat} {x2 : Int32} (hn : n ≤ 3) (H : J29 ti ac ru wc sz (nI d) lo ex hei al ov a1 a2 a3 a4 a5 a6 a7 a8 a9 a10 a11 a12 a13 a14 a15 a16 a17 a18 a19 a20 a21 a22 a23 a24 a25 a26 a27) : wX_compile_110 post J29 (nI d) x2 (nI n) (nI n) ti ac ru wc sz (nI (d + 1)) lo ex hei al ov a1 a2 a3 a4 a5 a6 a7 a8 a9 a10 a11 a12 a13 a14 a15 a16 a17 a18 a19 a20 a21 a22 a23 a24 a25 a26 a27 := by
  unfold wX_compile_110
  exact br_t (nI_le (Nat.le_refl _) (by omega)) (cp_143 H)
theorem cp_push {post : St2 → Prop} {J29 : Int32 → Int32 → Int32 → Int32 → Int32 → Int32 → Int32 → Int32 → Int32 → Int32 → Int32 → (Nat → Int32) → (Nat → Int32) → (Nat → Int32) → (Nat → Int32) → (Nat → Int32) → (Nat → Int32) → (Nat → Int32) → (Nat → Int32) → (Nat → Int32) → (Nat → Int32) → (Nat → Int32) → (Nat → Int32) → (Nat → Int32) → (Nat → Int32) → (Nat → Int32) → (Nat → Int32) → (Nat → Int32) → (Nat → Int32) → (Nat → Int32) → (Nat → Int32) → (Nat → Int32) → (Nat → Int32) → (Nat → Int32) → (Nat → Int32) → (Nat → Int32) → (Nat → Int32) → (Nat → Int32) →  Prop} {d i ph : Nat} (hd : d < 60) (hi : i < 27) (hp : ph < tk_np i) (hs : ∀ j, j < 27 → a14 j = nI (tk_sn j)) (H : J29 ti ac ru wc sz (nI (d + 2)) lo ex hei al ov a1 a2 a3 a4 a5 a6 a7 a8 a9 a10 a11 a12 a13 a14 a15 a16 a17 (upd a18 (d + 1) (nI (i + tk_pa i ph))) (upd a19 (d + 1) 0) a20 a21 a22 a23 a24 a25 a26 a27) : wX_compile_110 post J29 (nI d) (nI i) (nI ph) (nI (tk_np i)) ti ac ru wc sz (nI (d + 1)) lo ex hei al ov a1 a2 a3 a4 a5 a6 a7 a8 a9 a10 a11 a12 a13 a14 a15 a16 a17 a18 a19 a20 a21 a22 a23 a24 a25 a26 a27 := by
  have t7 := (tk_tc i hi).2.2.2.2.2.2.1
  unfold wX_compile_110
  exact br_f (nI_ge hp (by omega)) (br_t (nI_succ d) (pt_at hi hp hs (en_enter (by omega) H)))
theorem cp_go {post : St2 → Prop} {k l g : Nat} (hk : k < 3) (hl : l < 32) (hg : g < 8) (h11 : ∀ j, j < 27 → a11 j = tk_T k l g j) (h14 : ∀ j, j < 27 → a14 j = nI (tk_sn j)) (H : ∀ b15 b16 b17 b18 b19 : Nat → Int32, (∀ j, j < 24 → b15 j = cd_op k l g j ∧ b16 j = cd_ar k l g j) → post (ti, 0, ru, wc, nI 24, nI 0, lo, ex, hei, al, ov, a1, a2, a3, a4, a5, a6, a7, a8, a9, a10, a11, a12, a13, a14, b15, b16, b17, b18, b19, a20, a21, a22, a23, a24, a25, a26, a27)) : ∀ (m : Nat) (s : List (Nat × Nat)) (z : Nat) (a15 a16 a17 a18 a19 : Nat → Int32), cp_ok m s z = true → cp_R a18 a19 s → (∀ j, j < z → a15 j = cd_op k l g j ∧ a16 j = cd_ar k l g j) → wX_compile_29 post (m + 1) ti 0 ru wc (nI z) (nI s.length) lo ex hei al ov a1 a2 a3 a4 a5 a6 a7 a8 a9 a10 a11 a12 a13 a14 a15 a16 a17 a18 a19 a20 a21 a22 a23 a24 a25 a26 a27 := by
  intro m
  induction m with
  | zero =>
    intro s z a15 a16 a17 a18 a19 ho hR hc
    match s, ho, hR with
    | [], ho, hR =>
      have hz : z = 23 := by
        have ho' : (z == 23) = true := ho
        exact eq_of_beq ho'
      subst hz
      refine br_t (by decide) (em_emit (by omega) ?_)
      have hc' : ∀ j, j < 24 → upd a15 23 311 j = cd_op k l g j ∧ upd a16 23 0 j = cd_ar k l g j := by
        intro j hj
        by_cases e : j = 23
        · rw [e, pk_us, pk_us]
          exact ⟨rfl, rfl⟩
        · rw [pk_un e, pk_un e]
          exact hc j (by omega)
      refine ld_on (z := 24) (by omega) (fun j hj => ?_) (fun b17 => H _ _ _ _ _ hc')
      rw [(hc' j hj).1]
      unfold cd_op
      by_cases e : j = 23
      · rw [if_pos e]
        decide
      · rw [if_neg e]
        by_cases e2 : tk_nu (tk_or j) = 1
        · rw [if_pos e2]
          decide
        · rw [if_neg e2]
          have ho : ∀ j, j < 23 → tk_or j < 27 := by decide +kernel
          exact (tk_pl_T hk hl hg (ho j (by omega))).2.2.2.2.2.2.2.2
    | _ :: _, ho, hR => exact absurd (show false = true from ho) Bool.false_ne_true
  | succ m ih =>
    intro s z a15 a16 a17 a18 a19 ho hR hc
    match s, ho, hR with
    | [], ho, hR => exact absurd (show false = true from ho) Bool.false_ne_true
    | (i, ph) :: r, ho, hR =>
      have ho' : (decide (i < 27) && decide (ph ≤ tk_np i) && decide (r.length < 60) && (if ph < tk_np i then cp_ok m ((i + tk_pa i ph, 0) :: (i, ph + 1) :: r) z else if tk_kd i = 1 then cp_ok m r z else decide (z < 23) && (tk_or z == i) && (tk_sm i == 1 || cp_kn i z) && cp_ok m r (z + 1))) = true := ho
      rw [Bool.and_eq_true, Bool.and_eq_true, Bool.and_eq_true] at ho'
      obtain ⟨⟨⟨o1, o2⟩, o3⟩, o4⟩ := ho'
      have hi : i < 27 := of_decide_eq_true o1
      have hph : ph ≤ tk_np i := of_decide_eq_true o2
      have hr : r.length < 60 := of_decide_eq_true o3
      obtain ⟨t1, t2, t3, t4, t5, t6, t7, t8⟩ := tk_tc i hi
      obtain ⟨e1, e2, e3, e4, e5, e6, e7, e8, e9⟩ := tk_pl_T hk hl hg hi
      have R1 : a18 r.length = nI i := hR.1
      have R2 : a19 r.length = nI ph := hR.2.1
      have R3 : cp_R a18 a19 r := hR.2.2
      have hT := tk_parts_T hk hl hg hi
      refine br_f (nI_nle (n := r.length + 1) (by omega) (by omega)) (nm_r (nI_pred r.length) ⟨vp_in_nI (by omega) (by omega), nm_r (e' := nI i) (by rw [nI_clamp (by omega), R1]) ⟨vp_in_nI (by omega) (by omega), nm_r (e' := nI ph) (by rw [nI_clamp (by omega), R2]) ⟨vp_in_nI (by omega) (by omega), vp_in_nI (by omega) (by omega), nm_r (e' := upd a19 r.length (nI (ph + 1))) (by rw [nI_clamp (by omega), R2, nI_1]) ⟨?_, tk_parts_w (tk_st_w ?_)⟩⟩⟩⟩)
      · rw [zs_60]
        exact vp_in_nI (by omega) (by omega)
      · rw [zs_60, nI_clamp (by omega), h11 i hi, hT, tk_st_T hk hl hg hi]
        by_cases hlt : ph < tk_np i
        · rw [if_pos hlt] at o4
          have hN : wX_compile_29 post (m + 1) ti 0 ru wc (nI z) (nI (r.length + 2)) lo ex hei al ov a1 a2 a3 a4 a5 a6 a7 a8 a9 a10 a11 a12 a13 a14 a15 a16 a17 (upd a18 (r.length + 1) (nI (i + tk_pa i ph))) (upd (upd a19 r.length (nI (ph + 1))) (r.length + 1) 0) a20 a21 a22 a23 a24 a25 a26 a27 := by
            refine ih ((i + tk_pa i ph, 0) :: (i, ph + 1) :: r) z _ _ _ _ _ o4 ⟨pk_us, pk_us, ?_, ?_, ?_⟩ hc
            · show upd a18 (r.length + 1) _ r.length = _
              rw [pk_un (by omega), R1]
            · show upd (upd a19 r.length _) (r.length + 1) _ r.length = _
              rw [pk_un (by omega), pk_us]
            · exact cp_up r (by omega) (by omega) (cp_up9 r (Nat.le_refl _) R3)
          have hM := cp_push (post := post) (J29 := wX_compile_29 post (m + 1)) hr hi hlt h14 hN
          have h01 : tk_sm i = 0 ∨ tk_sm i = 1 := by omega
          rcases h01 with e | e
          · rw [e]
            exact br_t rfl (ex_skip hlt t7 hM)
          · rw [e]
            refine br_f (by decide) ?_
            have hkd : tk_kd i = 0 ∨ tk_kd i = 1 := by omega
            rcases hkd with ek | ek
            · exact st_skip e1 e2 e3 e4 e5 e6 e7 ((tk_sq_T hk hl hg hi).2 ek) t7 hlt hT hM
            · rw [(tk_sq_T hk hl hg hi).1 ek]
              exact st_seq hM
        · have hpe : ph = tk_np i := by omega
          rw [if_neg hlt] at o4
          by_cases ek : tk_kd i = 1
          · rw [if_pos ek] at o4
            rw [cp_sq i hi ek, (tk_sq_T hk hl hg hi).1 ek, hpe]
            refine br_f (by decide) (st_seq (cp_pop t7 ?_))
            exact ih r z _ _ _ _ _ o4 (cp_up9 r (Nat.le_refl _) R3) hc
          · have ek0 : tk_kd i = 0 := by omega
            rw [if_neg ek, Bool.and_eq_true, Bool.and_eq_true, Bool.and_eq_true] at o4
            obtain ⟨⟨⟨p1, p2⟩, p3⟩, p4⟩ := o4
            have hz : z < 23 := of_decide_eq_true p1
            have hoz : tk_or z = i := eq_of_beq p2
            have hne : z ≠ 23 := by omega
            rw [hpe]
            have hN : ∀ (x y : Int32) (b17 b19 : Nat → Int32), x = cd_op k l g z → y = cd_ar k l g z → cp_R a18 b19 r → wX_compile_29 post (m + 1) ti 0 ru wc (nI (z + 1)) (nI r.length) lo ex hei al ov a1 a2 a3 a4 a5 a6 a7 a8 a9 a10 a11 a12 a13 a14 (upd a15 z x) (upd a16 z y) b17 a18 b19 a20 a21 a22 a23 a24 a25 a26 a27 := by
              intro x y b17 b19 hx hy hb
              refine ih r (z + 1) _ _ _ _ _ p4 hb (fun j hj => ?_)
              by_cases e : j = z
              · rw [e, pk_us, pk_us]
                exact ⟨hx, hy⟩
              · rw [pk_un e, pk_un e]
                exact hc j (by omega)
            have h01 : tk_sm i = 0 ∨ tk_sm i = 1 := by omega
            have hnu : tk_nu i = 0 ∨ tk_nu i = 1 := by omega
            rcases h01 with e | e
            · rw [e]
              refine br_t rfl ?_
              rcases hnu with en | en
              · have hx : tk_T k l g i = cd_op k l g z := by
                  unfold cd_op
                  rw [if_neg hne, hoz, if_neg (by omega)]
                have hy : (0 : Int32) = cd_ar k l g z := by
                  unfold cd_ar
                  rw [if_neg hne, hoz, if_neg (by omega)]
                refine ex_op (by omega) t7 (by rw [tk_nu_T hk hl hg hi, en]) ?_ (cp_pop t7 (hN _ _ _ _ hx hy (cp_up9 r (Nat.le_refl _) R3)))
                have p3' : cp_kn i z = true := by
                  rw [e] at p3
                  exact p3
                unfold cp_kn at p3'
                rw [Bool.or_eq_true, Bool.and_eq_true, Bool.and_eq_true, Bool.or_eq_true] at p3'
                have hop : ∀ j, j < 23 → tk_nu (tk_or j) = 0 → cd_op k l g j ≠ 300 := by
                  intro j hj h0
                  have ho : ∀ j, j < 23 → tk_or j < 27 := by decide +kernel
                  unfold cd_op
                  rw [if_neg (by omega), if_neg (by omega)]
                  exact (tk_pl_T hk hl hg (ho j hj)).2.2.2.2.2.2.2.1
                rcases p3' with q | ⟨⟨q1, q2⟩, q3⟩
                · exact Or.inl (eq_of_beq q)
                · have q2' : 2 ≤ z := of_decide_eq_true q2
                  refine Or.inr ⟨eq_of_beq q1, q2', ?_⟩
                  rcases q3 with q | q
                  · refine Or.inl ?_
                    rw [(hc (z - 1) (by omega)).1]
                    exact hop _ (by omega) (eq_of_beq q)
                  · refine Or.inr ?_
                    rw [(hc (z - 2) (by omega)).1]
                    exact hop _ (by omega) (eq_of_beq q)
              · have hx : (300 : Int32) = cd_op k l g z := by
                  unfold cd_op
                  rw [if_neg hne, hoz, if_pos en]
                have hy : tk_T k l g i - 250 = cd_ar k l g z := by
                  unfold cd_ar
                  rw [if_neg hne, hoz, if_pos en]
                exact ex_num (by omega) t7 (by rw [tk_nu_T hk hl hg hi, en]) (cp_pop t7 (hN _ _ _ _ hx hy (cp_up9 r (Nat.le_refl _) R3)))
            · have en : tk_nu i = 0 := by
                have : ∀ i, i < 27 → tk_sm i = 1 → tk_nu i = 0 := by decide +kernel
                exact this i hi e
              have hx : tk_T k l g i = cd_op k l g z := by
                unfold cd_op
                rw [if_neg hne, hoz, if_neg (by omega)]
              have hy : (0 : Int32) = cd_ar k l g z := by
                unfold cd_ar
                rw [if_neg hne, hoz, if_neg (by omega)]
              rw [e]
              exact br_f (by decide) (st_emit (by omega) e1 e2 e3 e4 e5 e6 e7 ((tk_sq_T hk hl hg hi).2 ek0) hT (cp_pop t7 (hN _ _ _ _ hx hy (cp_up9 r (Nat.le_refl _) R3))))
theorem cp_compile {post : St2 → Prop} {k l g : Nat} (hk : k < 3) (hl : l < 32) (hg : g < 8) (h12 : a12 0 = nI 27) (h11 : ∀ j, j < 27 → a11 j = tk_T k l g j) (H : ∀ b14 b15 b16 b17 b18 b19 : Nat → Int32, (∀ j, j < 24 → b15 j = cd_op k l g j ∧ b16 j = cd_ar k l g j) → post (ti, 0, ru, wc, nI 24, nI 0, 0, 0, hei, al, ov, a1, a2, a3, a4, a5, a6, a7, a8, a9, a10, a11, a12, a13, b14, b15, b16, b17, b18, b19, a20, a21, a22, a23, a24, a25, a26, a27)) : wpX_compile post (ti, 0, ru, wc, sz, dp, lo, ex, hei, al, ov, a1, a2, a3, a4, a5, a6, a7, a8, a9, a10, a11, a12, a13, a14, a15, a16, a17, a18, a19, a20, a21, a22, a23, a24, a25, a26, a27) := by
  unfold wpX_compile
  refine ms_measure hk hl hg h12 h11 (fun b14 h14 => ?_)
  refine en_enter (d := 0) (by omega) ?_
  refine ⟨53 + 1, ?_⟩
  refine cp_go (a14 := b14) hk hl hg h11 h14 (fun b15 b16 b17 b18 b19 hc => H b14 b15 b16 b17 b18 b19 hc) 53 [(0, 0)] 0 _ _ _ _ _ cp_all ⟨pk_us, pk_us, trivial⟩ (fun j hj => absurd hj (by omega))
theorem ac_activate {post : Int32 → St2 → Prop} {k l g : Nat} (hk : k < 3) (hl : l < 32) (hg : g < 8) (h12 : a12 0 = nI 27) (h11 : ∀ j, j < 27 → a11 j = tk_T k l g j) (H : ∀ b13 b14 b15 b16 b17 b18 b19 : Nat → Int32, (∀ j, j < 24 → b15 j = cd_op k l g j ∧ b16 j = cd_ar k l g j) → post ac (ti, 0, 1, nI 0, nI 24, nI 0, 0, 0, hei, al, ov, a1, a2, a3, a4, a5, a6, a7, a8, a9, a10, a11, a12, b13, b14, b15, b16, b17, b18, b19, a20, a21, a22, a23, a24, a25, a26, a27)) : wpX_activate post (ti, ac, ru, wc, sz, dp, lo, ex, hei, al, ov, a1, a2, a3, a4, a5, a6, a7, a8, a9, a10, a11, a12, a13, a14, a15, a16, a17, a18, a19, a20, a21, a22, a23, a24, a25, a26, a27) 0 := by
  unfold wpX_activate
  refine br_t rfl (br_f (by decide) ?_)
  refine fd_isC hk hl hg h12 h11 (fun b13 => ?_)
  refine br_f (by decide) ?_
  exact cp_compile hk hl hg h12 h11 (fun b14 b15 b16 b17 b18 b19 hc => H b13 b14 b15 b16 b17 b18 b19 hc)
end
end
section
/-! the machine: single instructions -/
section
variable {ti ac ru wc sz dp lo ex hei al ov : Int32} {a1 a2 a3 a4 a5 a6 a7 a8 a9 a10 a11 a12 a13 a14 a15 a16 a17 a18 a19 a20 a21 a22 a23 a24 a25 a26 a27 : Nat → Int32}
theorem mc_push {post : St2 → Prop} {v : Int32} {h : Nat} (hh : h < 80) (H : post (ti, ac, ru, wc, sz, dp, lo, ex, nI (h + 1), al, ov, a1, a2, a3, a4, a5, a6, a7, a8, a9, a10, a11, a12, a13, a14, a15, a16, a17, a18, a19, a20, a21, a22, a23, a24, upd a25 h v, a26, a27)) : wpX_push post (ti, ac, ru, wc, sz, dp, lo, ex, nI h, al, ov, a1, a2, a3, a4, a5, a6, a7, a8, a9, a10, a11, a12, a13, a14, a15, a16, a17, a18, a19, a20, a21, a22, a23, a24, a25, a26, a27) v := by
  unfold wpX_push
  exact ⟨vp_in_nI hh (by omega), nm_r (e' := upd a25 h v) (by rw [nI_clamp (by omega)]) (nm_r (nI_1 h) H)⟩
theorem mc_pop {post : Int32 → St2 → Prop} {x : Int32} {h : Nat} (hh : h < 80) (hx : a25 h = x) (H : post x (ti, ac, ru, wc, sz, dp, lo, ex, nI h, al, ov, a1, a2, a3, a4, a5, a6, a7, a8, a9, a10, a11, a12, a13, a14, a15, a16, a17, a18, a19, a20, a21, a22, a23, a24, a25, a26, a27)) : wpX_pop post (ti, ac, ru, wc, sz, dp, lo, ex, nI (h + 1), al, ov, a1, a2, a3, a4, a5, a6, a7, a8, a9, a10, a11, a12, a13, a14, a15, a16, a17, a18, a19, a20, a21, a22, a23, a24, a25, a26, a27) := by
  unfold wpX_pop
  refine nm_r (nI_pred h) ⟨vp_in_nI hh (by omega), ?_⟩
  rw [nI_clamp (by omega), hx]
  exact H
theorem mc_add {k : Nat} (n : Nat) : nI n + nI k = nI (n + k) := nI_add n k
theorem rt_100 {post : St2 → Prop} {k : Nat} {x2 x3 x4 z0 : Int32} (hk : k < 3) (H : post (ti, ac, ru, wc, sz, dp, lo, ex, hei, al, ov, a1, a2, a3, a4, a5, a6, a7, a8, a9, upd (upd a10 (3 + k) z0) k (if x3 = 0 then 0 else if x4 < x2 then 0 else 1), a11, a12, a13, a14, a15, a16, a17, a18, a19, a20, a21, a22, a23, a24, a25, a26, a27)) : wX_runTimer_100 post (nI k) x2 x3 x4 z0 (nI 3 + nI k) ti ac ru wc sz dp lo ex hei al ov a1 a2 a3 a4 a5 a6 a7 a8 a9 a10 a11 a12 a13 a14 a15 a16 a17 a18 a19 a20 a21 a22 a23 a24 a25 a26 a27 := by
  unfold wX_runTimer_100
  rw [nI_add]
  refine ⟨vp_in_nI (by omega) (by omega), nm_r (e' := upd a10 (3 + k) z0) (by rw [nI_clamp (by omega)]) ?_⟩
  rw [nI_clamp (show k < 2 ^ 31 by omega)]
  exact tk_b2 (fun v => post (ti, ac, ru, wc, sz, dp, lo, ex, hei, al, ov, a1, a2, a3, a4, a5, a6, a7, a8, a9, upd (upd a10 (3 + k) z0) k v, a11, a12, a13, a14, a15, a16, a17, a18, a19, a20, a21, a22, a23, a24, a25, a26, a27)) H (fun h => ⟨vp_in_nI (by omega) (by omega), nm_e h⟩) (fun h => tk_b2 (fun v => post (ti, ac, ru, wc, sz, dp, lo, ex, hei, al, ov, a1, a2, a3, a4, a5, a6, a7, a8, a9, upd (upd a10 (3 + k) z0) k v, a11, a12, a13, a14, a15, a16, a17, a18, a19, a20, a21, a22, a23, a24, a25, a26, a27)) h (fun h => ⟨vp_in_nI (by omega) (by omega), nm_e h⟩) (fun h => ⟨vp_in_nI (by omega) (by omega), nm_e h⟩))
theorem rt_81 {post : St2 → Prop} {k : Nat} {x2 x3 x4 z0 : Int32} (hk : k < 3) (H : post (ti, ac, ru, wc, sz, dp, lo, ex, hei, al, ov, a1, a2, a3, a4, a5, a6, a7, a8, a9, upd (upd a10 (3 + k) (if x3 = 0 then 0 else z0)) k (if x3 = 0 then 0 else if x4 < x2 then 0 else 1), a11, a12, a13, a14, a15, a16, a17, a18, a19, a20, a21, a22, a23, a24, a25, a26, a27)) : wX_runTimer_81 post (nI k) x2 x3 x4 z0 ti ac ru wc sz dp lo ex hei al ov a1 a2 a3 a4 a5 a6 a7 a8 a9 a10 a11 a12 a13 a14 a15 a16 a17 a18 a19 a20 a21 a22 a23 a24 a25 a26 a27 := by
  unfold wX_runTimer_81
  exact tk_b2 (fun v => wX_runTimer_100 post (nI k) x2 x3 x4 v (nI 3 + nI k) ti ac ru wc sz dp lo ex hei al ov a1 a2 a3 a4 a5 a6 a7 a8 a9 a10 a11 a12 a13 a14 a15 a16 a17 a18 a19 a20 a21 a22 a23 a24 a25 a26 a27) (rt_100 hk H) id id
theorem rt_nar0 : vp_nar .boolean 0 = 0 := by decide
theorem rt_nar1 : vp_nar .boolean 1 = 1 := by decide
theorem rt_41 {post : St2 → Prop} {k : Nat} {x2 x3 : Int32} (hk : k < 3) (h3 : vp_nar .boolean x3 = x3) (H : post (ti, ac, ru, wc, sz, dp, lo, ex, hei, al, ov, a1, a2, a3, a4, a5, upd a6 k x3, a7, a8, a9, upd (upd a10 (3 + k) (if x3 = 0 then 0 else if x2 ≤ ti - a7 k then (if 0 ≤ x2 then x2 else 0) else ti - a7 k)) k (if x3 = 0 then 0 else if ti - a7 k < x2 then 0 else 1), a11, a12, a13, a14, a15, a16, a17, a18, a19, a20, a21, a22, a23, a24, a25, a26, a27)) : wX_runTimer_41 post (nI k) x2 x3 ti ac ru wc sz dp lo ex hei al ov a1 a2 a3 a4 a5 a6 a7 a8 a9 a10 a11 a12 a13 a14 a15 a16 a17 a18 a19 a20 a21 a22 a23 a24 a25 a26 a27 := by
  unfold wX_runTimer_41
  rw [nI_clamp (show k < 2 ^ 31 by omega), h3]
  refine ⟨vp_in_nI (by omega) (by omega), nm_e ⟨vp_in_nI (by omega) (by omega), nm_e ?_⟩⟩
  exact tk_b2 (fun v => wX_runTimer_81 post (nI k) x2 x3 (ti - a7 k) v ti ac ru wc sz dp lo ex hei al ov a1 a2 a3 a4 a5 (upd a6 k x3) a7 a8 a9 a10 a11 a12 a13 a14 a15 a16 a17 a18 a19 a20 a21 a22 a23 a24 a25 a26 a27) (rt_81 hk H) (fun h => tk_b2 (fun v => wX_runTimer_81 post (nI k) x2 x3 (ti - a7 k) v ti ac ru wc sz dp lo ex hei al ov a1 a2 a3 a4 a5 (upd a6 k x3) a7 a8 a9 a10 a11 a12 a13 a14 a15 a16 a17 a18 a19 a20 a21 a22 a23 a24 a25 a26 a27) h id id) id
def rt_b7 (a6 a7 : Nat → Int32) (k : Nat) (t e : Int32) : Nat → Int32 := if e = 0 then a7 else if a6 k = 0 then upd a7 k t else a7
theorem rt_17 {post : St2 → Prop} {k : Nat} {x2 x3 : Int32} (hk : k < 3) (h3 : vp_nar .boolean x3 = x3) (H : ∀ b7, b7 = rt_b7 a6 a7 k ti x3 → post (ti, ac, ru, wc, sz, dp, lo, ex, hei, al, ov, a1, a2, a3, a4, a5, upd a6 k x3, b7, a8, a9, upd (upd a10 (3 + k) (if x3 = 0 then 0 else if x2 ≤ ti - b7 k then (if 0 ≤ x2 then x2 else 0) else ti - b7 k)) k (if x3 = 0 then 0 else if ti - b7 k < x2 then 0 else 1), a11, a12, a13, a14, a15, a16, a17, a18, a19, a20, a21, a22, a23, a24, a25, a26, a27)) : wX_runTimer_17 post (nI k) x2 x3 ti ac ru wc sz dp lo ex hei al ov a1 a2 a3 a4 a5 a6 a7 a8 a9 a10 a11 a12 a13 a14 a15 a16 a17 a18 a19 a20 a21 a22 a23 a24 a25 a26 a27 := by
  have h := rt_41 (a7 := rt_b7 a6 a7 k ti x3) hk h3 (H _ rfl)
  unfold rt_b7 at h
  unfold wX_runTimer_17
  rw [nI_clamp (show k < 2 ^ 31 by omega)]
  exact tk_b2 (fun v => wX_runTimer_41 post (nI k) x2 x3 ti ac ru wc sz dp lo ex hei al ov a1 a2 a3 a4 a5 a6 v a8 a9 a10 a11 a12 a13 a14 a15 a16 a17 a18 a19 a20 a21 a22 a23 a24 a25 a26 a27) h id (fun h => ⟨vp_in_nI (by omega) (by omega), tk_b2 (fun v => wX_runTimer_41 post (nI k) x2 x3 ti ac ru wc sz dp lo ex hei al ov a1 a2 a3 a4 a5 a6 v a8 a9 a10 a11 a12 a13 a14 a15 a16 a17 a18 a19 a20 a21 a22 a23 a24 a25 a26 a27) h (fun h => ⟨vp_in_nI (by omega) (by omega), nm_e h⟩) id⟩)
theorem rt_timer {post : St2 → Prop} {k h : Nat} {v pr e : Int32} (hk : k < 3) (hh : h + 2 ≤ 80) (hv : a25 h = v) (hp : a25 (h + 1) = pr) (he : e = if v = 0 then 0 else 1) (H : ∀ b7, b7 = rt_b7 a6 a7 k ti e → post (ti, ac, ru, wc, sz, dp, lo, ex, nI h, al, ov, a1, a2, a3, a4, a5, upd a6 k e, b7, a8, a9, upd (upd a10 (3 + k) (if e = 0 then 0 else if pr ≤ ti - b7 k then (if 0 ≤ pr then pr else 0) else ti - b7 k)) k (if e = 0 then 0 else if ti - b7 k < pr then 0 else 1), a11, a12, a13, a14, a15, a16, a17, a18, a19, a20, a21, a22, a23, a24, a25, a26, a27)) : wpX_runTimer post (ti, ac, ru, wc, sz, dp, lo, ex, nI (h + 2), al, ov, a1, a2, a3, a4, a5, a6, a7, a8, a9, a10, a11, a12, a13, a14, a15, a16, a17, a18, a19, a20, a21, a22, a23, a24, a25, a26, a27) (nI k) := by
  unfold wpX_runTimer
  refine mc_pop (h := h + 1) (by omega) hp (mc_pop (by omega) hv ?_)
  by_cases hc : v = 0
  · rw [if_pos hc] at he
    subst he
    exact br_t hc (rt_17 hk rt_nar0 H)
  · rw [if_neg hc] at he
    subst he
    exact br_f hc (rt_17 hk rt_nar1 H)
theorem rc_76 {post : St2 → Prop} {k : Nat} {x2 x4 : Int32} (hk : k < 3) (h4 : vp_nar .boolean x4 = x4) (H : post (ti, ac, ru, wc, sz, dp, lo, ex, hei, al, ov, a1, a2, a3, a4, a5, a6, a7, upd a8 k x4, a9, upd a10 (9 + k) (if a10 (6 + k) < x2 then 0 else 1), a11, a12, a13, a14, a15, a16, a17, a18, a19, a20, a21, a22, a23, a24, a25, a26, a27)) : wX_runCounter_76 post (nI k) x2 x4 ti ac ru wc sz dp lo ex hei al ov a1 a2 a3 a4 a5 a6 a7 a8 a9 a10 a11 a12 a13 a14 a15 a16 a17 a18 a19 a20 a21 a22 a23 a24 a25 a26 a27 := by
  unfold wX_runCounter_76
  rw [nI_clamp (show k < 2 ^ 31 by omega), h4, show (6 : Int32) + nI k = nI (6 + k) from nI_add 6 k, show (9 : Int32) + nI k = nI (9 + k) from nI_add 9 k, nI_clamp (show 6 + k < 2 ^ 31 by omega), nI_clamp (show 9 + k < 2 ^ 31 by omega)]
  refine ⟨vp_in_nI (by omega) (by omega), nm_e ⟨vp_in_nI (by omega) (by omega), ?_⟩⟩
  exact tk_b2 (fun v => post (ti, ac, ru, wc, sz, dp, lo, ex, hei, al, ov, a1, a2, a3, a4, a5, a6, a7, upd a8 k x4, a9, upd a10 (9 + k) v, a11, a12, a13, a14, a15, a16, a17, a18, a19, a20, a21, a22, a23, a24, a25, a26, a27)) H (fun h => ⟨vp_in_nI (by omega) (by omega), nm_e h⟩) (fun h => ⟨vp_in_nI (by omega) (by omega), nm_e h⟩)
def rc_v (f e l a : Int32) : Int32 := if f = 0 then (if e = 0 then a else if l = 0 then a + 1 else a) else 0
theorem rc_30 {post : St2 → Prop} {k : Nat} {x2 x3 z0 : Int32} (hk : k < 3) (h4 : vp_nar .boolean z0 = z0) (H : ∀ b10 : Nat → Int32, b10 (6 + k) = rc_v x3 z0 (a8 k) (a10 (6 + k)) → (∀ j, j ≠ 6 + k → b10 j = a10 j) → post (ti, ac, ru, wc, sz, dp, lo, ex, hei, al, ov, a1, a2, a3, a4, a5, a6, a7, upd a8 k z0, a9, upd b10 (9 + k) (if rc_v x3 z0 (a8 k) (a10 (6 + k)) < x2 then 0 else 1), a11, a12, a13, a14, a15, a16, a17, a18, a19, a20, a21, a22, a23, a24, a25, a26, a27)) : wX_runCounter_30 post (nI k) x2 x3 z0 ti ac ru wc sz dp lo ex hei al ov a1 a2 a3 a4 a5 a6 a7 a8 a9 a10 a11 a12 a13 a14 a15 a16 a17 a18 a19 a20 a21 a22 a23 a24 a25 a26 a27 := by
  have H' : ∀ b10 : Nat → Int32, b10 (6 + k) = rc_v x3 z0 (a8 k) (a10 (6 + k)) → (∀ j, j ≠ 6 + k → b10 j = a10 j) → wX_runCounter_76 post (nI k) x2 z0 ti ac ru wc sz dp lo ex hei al ov a1 a2 a3 a4 a5 a6 a7 a8 a9 b10 a11 a12 a13 a14 a15 a16 a17 a18 a19 a20 a21 a22 a23 a24 a25 a26 a27 := by
    intro b10 h1 h2
    refine rc_76 hk h4 ?_
    rw [h1]
    exact H b10 h1 h2
  unfold wX_runCounter_30
  rw [nI_clamp (show k < 2 ^ 31 by omega), show (6 : Int32) + nI k = nI (6 + k) from nI_add 6 k, nI_clamp (show 6 + k < 2 ^ 31 by omega)]
  unfold rc_v at H'
  refine br_c (fun h3 => br_c (fun h0 => ?_) (fun h0 => ⟨vp_in_nI (by omega) (by omega), br_c (fun h8 => ⟨vp_in_nI (by omega) (by omega), vp_in_nI (by omega) (by omega), nm_e ?_⟩) (fun h8 => ?_)⟩)) (fun h3 => ⟨vp_in_nI (by omega) (by omega), nm_e ?_⟩)
  · exact H' a10 (by rw [if_pos h3, if_pos h0]) (fun j _ => rfl)
  · exact H' _ (by rw [if_pos h3, if_neg h0, if_pos h8, pk_us]) (fun j hj => pk_un hj)
  · exact H' a10 (by rw [if_pos h3, if_neg h0, if_neg h8]) (fun j _ => rfl)
  · exact H' _ (by rw [if_neg h3, pk_us]) (fun j hj => pk_un hj)
theorem rc_17 {post : St2 → Prop} {k h : Nat} {x2 x3 v e : Int32} (hk : k < 3) (hh : h < 80) (hv : a25 h = v) (he : e = if v = 0 then 0 else 1) (H : ∀ b10 : Nat → Int32, b10 (6 + k) = rc_v x3 e (a8 k) (a10 (6 + k)) → (∀ j, j ≠ 6 + k → b10 j = a10 j) → post (ti, ac, ru, wc, sz, dp, lo, ex, nI h, al, ov, a1, a2, a3, a4, a5, a6, a7, upd a8 k e, a9, upd b10 (9 + k) (if rc_v x3 e (a8 k) (a10 (6 + k)) < x2 then 0 else 1), a11, a12, a13, a14, a15, a16, a17, a18, a19, a20, a21, a22, a23, a24, a25, a26, a27)) : wX_runCounter_17 post (nI k) x2 x3 ti ac ru wc sz dp lo ex (nI (h + 1)) al ov a1 a2 a3 a4 a5 a6 a7 a8 a9 a10 a11 a12 a13 a14 a15 a16 a17 a18 a19 a20 a21 a22 a23 a24 a25 a26 a27 := by
  unfold wX_runCounter_17
  refine mc_pop hh hv ?_
  by_cases hc : v = 0
  · rw [if_pos hc] at he
    subst he
    exact br_t hc (rc_30 hk rt_nar0 H)
  · rw [if_neg hc] at he
    subst he
    exact br_f hc (rc_30 hk rt_nar1 H)
theorem rc_counter {post : St2 → Prop} {k h : Nat} {v w pr e f : Int32} (hk : k < 3) (hh : h + 3 ≤ 80) (hv : a25 h = v) (hw : a25 (h + 1) = w) (hp : a25 (h + 2) = pr) (he : e = if v = 0 then 0 else 1) (hf : f = if w = 0 then 0 else 1) (H : ∀ b10 : Nat → Int32, b10 (6 + k) = rc_v f e (a8 k) (a10 (6 + k)) → (∀ j, j ≠ 6 + k → b10 j = a10 j) → post (ti, ac, ru, wc, sz, dp, lo, ex, nI h, al, ov, a1, a2, a3, a4, a5, a6, a7, upd a8 k e, a9, upd b10 (9 + k) (if rc_v f e (a8 k) (a10 (6 + k)) < pr then 0 else 1), a11, a12, a13, a14, a15, a16, a17, a18, a19, a20, a21, a22, a23, a24, a25, a26, a27)) : wpX_runCounter post (ti, ac, ru, wc, sz, dp, lo, ex, nI (h + 3), al, ov, a1, a2, a3, a4, a5, a6, a7, a8, a9, a10, a11, a12, a13, a14, a15, a16, a17, a18, a19, a20, a21, a22, a23, a24, a25, a26, a27) (nI k) := by
  unfold wpX_runCounter
  refine mc_pop (h := h + 2) (by omega) hp (mc_pop (h := h + 1) (by omega) hw ?_)
  by_cases hc : w = 0
  · rw [if_pos hc] at hf
    subst hf
    exact br_t hc (rc_17 hk (by omega) hv he H)
  · rw [if_neg hc] at hf
    subst hf
    exact br_f hc (rc_17 hk (by omega) hv he H)
theorem re_38 {post : St2 → Prop} {k : Nat} {x2 : Int32} (hk : k < 3) (h2 : vp_nar .boolean x2 = x2) (H : post (ti, ac, ru, wc, sz, dp, lo, ex, hei, al, ov, a1, a2, a3, a4, a5, a6, a7, a8, upd a9 k x2, upd a10 (12 + k) 0, a11, a12, a13, a14, a15, a16, a17, a18, a19, a20, a21, a22, a23, a24, a25, a26, a27)) : wX_runEdge_38 post (nI k) x2 (nI (12 + k)) ti ac ru wc sz dp lo ex hei al ov a1 a2 a3 a4 a5 a6 a7 a8 a9 a10 a11 a12 a13 a14 a15 a16 a17 a18 a19 a20 a21 a22 a23 a24 a25 a26 a27 := by
  unfold wX_runEdge_38
  rw [nI_clamp (show k < 2 ^ 31 by omega), h2, nI_clamp (show 12 + k < 2 ^ 31 by omega)]
  exact ⟨vp_in_nI (by omega) (by omega), nm_e ⟨vp_in_nI (by omega) (by omega), nm_e H⟩⟩
theorem re_12 {post : St2 → Prop} {k : Nat} {z0 : Int32} (hk : k < 3) (h2 : vp_nar .boolean z0 = z0) (H : post (ti, ac, ru, wc, sz, dp, lo, ex, hei, al, ov, a1, a2, a3, a4, a5, a6, a7, a8, upd a9 k z0, upd a10 (12 + k) (if z0 = 0 then 0 else if a9 k = 0 then 1 else 0), a11, a12, a13, a14, a15, a16, a17, a18, a19, a20, a21, a22, a23, a24, a25, a26, a27)) : wX_runEdge_12 post (nI k) z0 ti ac ru wc sz dp lo ex hei al ov a1 a2 a3 a4 a5 a6 a7 a8 a9 a10 a11 a12 a13 a14 a15 a16 a17 a18 a19 a20 a21 a22 a23 a24 a25 a26 a27 := by
  unfold wX_runEdge_12
  rw [show (12 : Int32) + nI k = nI (12 + k) from nI_add 12 k, nI_clamp (show k < 2 ^ 31 by omega), h2, nI_clamp (show 12 + k < 2 ^ 31 by omega)]
  exact tk_b2 (fun v => post (ti, ac, ru, wc, sz, dp, lo, ex, hei, al, ov, a1, a2, a3, a4, a5, a6, a7, a8, upd a9 k z0, upd a10 (12 + k) v, a11, a12, a13, a14, a15, a16, a17, a18, a19, a20, a21, a22, a23, a24, a25, a26, a27)) H (fun h => re_38 hk h2 h) (fun h => ⟨vp_in_nI (by omega) (by omega), tk_b2 (fun v => post (ti, ac, ru, wc, sz, dp, lo, ex, hei, al, ov, a1, a2, a3, a4, a5, a6, a7, a8, upd a9 k z0, upd a10 (12 + k) v, a11, a12, a13, a14, a15, a16, a17, a18, a19, a20, a21, a22, a23, a24, a25, a26, a27)) h (fun h => ⟨vp_in_nI (by omega) (by omega), nm_e ⟨vp_in_nI (by omega) (by omega), nm_e h⟩⟩) (fun h => re_38 hk h2 h)⟩)
theorem re_edge {post : St2 → Prop} {k h : Nat} {v e : Int32} (hk : k < 3) (hh : h < 80) (hv : a25 h = v) (he : e = if v = 0 then 0 else 1) (H : post (ti, ac, ru, wc, sz, dp, lo, ex, nI h, al, ov, a1, a2, a3, a4, a5, a6, a7, a8, upd a9 k e, upd a10 (12 + k) (if e = 0 then 0 else if a9 k = 0 then 1 else 0), a11, a12, a13, a14, a15, a16, a17, a18, a19, a20, a21, a22, a23, a24, a25, a26, a27)) : wpX_runEdge post (ti, ac, ru, wc, sz, dp, lo, ex, nI (h + 1), al, ov, a1, a2, a3, a4, a5, a6, a7, a8, a9, a10, a11, a12, a13, a14, a15, a16, a17, a18, a19, a20, a21, a22, a23, a24, a25, a26, a27) (nI k) := by
  unfold wpX_runEdge
  refine mc_pop hh hv ?_
  by_cases hc : v = 0
  · rw [if_pos hc] at he
    subst he
    exact br_t hc (re_12 hk rt_nar0 H)
  · rw [if_neg hc] at he
    subst he
    exact br_f hc (re_12 hk rt_nar1 H)
/-! one instruction at place z -/
theorem zc_push {post : Int32 → St2 → Prop} {z h : Nat} {v : Int32} (hz : z < 400) (hh : h < 80) (ho : a15 z = nI 300) (hv : a16 z = v) (H : post (nI z + 1) (ti, ac, ru, wc, sz, dp, lo, ex, nI (h + 1), al, ov, a1, a2, a3, a4, a5, a6, a7, a8, a9, a10, a11, a12, a13, a14, a15, a16, a17, a18, a19, a20, a21, a22, a23, a24, upd a25 h v, a26, a27)) : wpX_carryOut post (ti, ac, ru, wc, sz, dp, lo, ex, nI h, al, ov, a1, a2, a3, a4, a5, a6, a7, a8, a9, a10, a11, a12, a13, a14, a15, a16, a17, a18, a19, a20, a21, a22, a23, a24, a25, a26, a27) (nI z) := by
  unfold wpX_carryOut
  refine ⟨vp_in_nI hz (by omega), nm_r (e' := nI 300) (by rw [nI_clamp (by omega), ho]) (br_t (by decide) (br_t (by decide) ⟨vp_in_nI hz (by omega), ?_⟩))⟩
  rw [nI_clamp (show z < 2 ^ 31 by omega), hv]
  exact mc_push hh H
theorem zc_low {post : Int32 → St2 → Prop} {z o : Nat} (hz : z < 400) (ho : a15 z = nI o) (h3 : o < 300) (H : (34 < nI o → ((100 ≤ nI o → ((128 < nI o → ((142 < nI o → (vp_in (nI o - 143) 15 ∧ wpX_push (fun u => match u with | (ti_q, ac_q, ru_q, wc_q, sz_q, dp_q, lo_q, ex_q, hei_q, al_q, ov_q, a1_q, a2_q, a3_q, a4_q, a5_q, a6_q, a7_q, a8_q, a9_q, a10_q, a11_q, a12_q, a13_q, a14_q, a15_q, a16_q, a17_q, a18_q, a19_q, a20_q, a21_q, a22_q, a23_q, a24_q, a25_q, a26_q, a27_q) => post (nI z + 1) (ti_q, ac_q, ru_q, wc_q, sz_q, dp_q, lo_q, ex_q, hei_q, al_q, ov_q, a1_q, a2_q, a3_q, a4_q, a5_q, a6_q, a7_q, a8_q, a9_q, a10_q, a11_q, a12_q, a13_q, a14_q, a15_q, a16_q, a17_q, a18_q, a19_q, a20_q, a21_q, a22_q, a23_q, a24_q, a25_q, a26_q, a27_q)) (ti, ac, ru, wc, sz, dp, lo, ex, hei, al, ov, a1, a2, a3, a4, a5, a6, a7, a8, a9, a10, a11, a12, a13, a14, a15, a16, a17, a18, a19, a20, a21, a22, a23, a24, a25, a26, a27) (a10 (nI o - 143).toNatClampNeg))) ∧ (¬ 142 < nI o → wpX_compute (fun u => match u with | (ti_q, ac_q, ru_q, wc_q, sz_q, dp_q, lo_q, ex_q, hei_q, al_q, ov_q, a1_q, a2_q, a3_q, a4_q, a5_q, a6_q, a7_q, a8_q, a9_q, a10_q, a11_q, a12_q, a13_q, a14_q, a15_q, a16_q, a17_q, a18_q, a19_q, a20_q, a21_q, a22_q, a23_q, a24_q, a25_q, a26_q, a27_q) => post (nI z + 1) (ti_q, ac_q, ru_q, wc_q, sz_q, dp_q, lo_q, ex_q, hei_q, al_q, ov_q, a1_q, a2_q, a3_q, a4_q, a5_q, a6_q, a7_q, a8_q, a9_q, a10_q, a11_q, a12_q, a13_q, a14_q, a15_q, a16_q, a17_q, a18_q, a19_q, a20_q, a21_q, a22_q, a23_q, a24_q, a25_q, a26_q, a27_q)) (ti, ac, ru, wc, sz, dp, lo, ex, hei, al, ov, a1, a2, a3, a4, a5, a6, a7, a8, a9, a10, a11, a12, a13, a14, a15, a16, a17, a18, a19, a20, a21, a22, a23, a24, a25, a26, a27) (nI o)))) ∧ (¬ 128 < nI o → wpX_load (fun u => match u with | (ti_q, ac_q, ru_q, wc_q, sz_q, dp_q, lo_q, ex_q, hei_q, al_q, ov_q, a1_q, a2_q, a3_q, a4_q, a5_q, a6_q, a7_q, a8_q, a9_q, a10_q, a11_q, a12_q, a13_q, a14_q, a15_q, a16_q, a17_q, a18_q, a19_q, a20_q, a21_q, a22_q, a23_q, a24_q, a25_q, a26_q, a27_q) => post (nI z + 1) (ti_q, ac_q, ru_q, wc_q, sz_q, dp_q, lo_q, ex_q, hei_q, al_q, ov_q, a1_q, a2_q, a3_q, a4_q, a5_q, a6_q, a7_q, a8_q, a9_q, a10_q, a11_q, a12_q, a13_q, a14_q, a15_q, a16_q, a17_q, a18_q, a19_q, a20_q, a21_q, a22_q, a23_q, a24_q, a25_q, a26_q, a27_q)) (ti, ac, ru, wc, sz, dp, lo, ex, hei, al, ov, a1, a2, a3, a4, a5, a6, a7, a8, a9, a10, a11, a12, a13, a14, a15, a16, a17, a18, a19, a20, a21, a22, a23, a24, a25, a26, a27) (nI o)))) ∧ (¬ 100 ≤ nI o → wpX_runBlock (fun u => match u with | (ti_q, ac_q, ru_q, wc_q, sz_q, dp_q, lo_q, ex_q, hei_q, al_q, ov_q, a1_q, a2_q, a3_q, a4_q, a5_q, a6_q, a7_q, a8_q, a9_q, a10_q, a11_q, a12_q, a13_q, a14_q, a15_q, a16_q, a17_q, a18_q, a19_q, a20_q, a21_q, a22_q, a23_q, a24_q, a25_q, a26_q, a27_q) => post (nI z + 1) (ti_q, ac_q, ru_q, wc_q, sz_q, dp_q, lo_q, ex_q, hei_q, al_q, ov_q, a1_q, a2_q, a3_q, a4_q, a5_q, a6_q, a7_q, a8_q, a9_q, a10_q, a11_q, a12_q, a13_q, a14_q, a15_q, a16_q, a17_q, a18_q, a19_q, a20_q, a21_q, a22_q, a23_q, a24_q, a25_q, a26_q, a27_q)) (ti, ac, ru, wc, sz, dp, lo, ex, hei, al, ov, a1, a2, a3, a4, a5, a6, a7, a8, a9, a10, a11, a12, a13, a14, a15, a16, a17, a18, a19, a20, a21, a22, a23, a24, a25, a26, a27) (nI o)))) ∧ (¬ 34 < nI o → wpX_change (fun u => match u with | (ti_q, ac_q, ru_q, wc_q, sz_q, dp_q, lo_q, ex_q, hei_q, al_q, ov_q, a1_q, a2_q, a3_q, a4_q, a5_q, a6_q, a7_q, a8_q, a9_q, a10_q, a11_q, a12_q, a13_q, a14_q, a15_q, a16_q, a17_q, a18_q, a19_q, a20_q, a21_q, a22_q, a23_q, a24_q, a25_q, a26_q, a27_q) => post (nI z + 1) (ti_q, ac_q, ru_q, wc_q, sz_q, dp_q, lo_q, ex_q, hei_q, al_q, ov_q, a1_q, a2_q, a3_q, a4_q, a5_q, a6_q, a7_q, a8_q, a9_q, a10_q, a11_q, a12_q, a13_q, a14_q, a15_q, a16_q, a17_q, a18_q, a19_q, a20_q, a21_q, a22_q, a23_q, a24_q, a25_q, a26_q, a27_q)) (ti, ac, ru, wc, sz, dp, lo, ex, hei, al, ov, a1, a2, a3, a4, a5, a6, a7, a8, a9, a10, a11, a12, a13, a14, a15, a16, a17, a18, a19, a20, a21, a22, a23, a24, a25, a26, a27) (nI o))) : wpX_carryOut post (ti, ac, ru, wc, sz, dp, lo, ex, hei, al, ov, a1, a2, a3, a4, a5, a6, a7, a8, a9, a10, a11, a12, a13, a14, a15, a16, a17, a18, a19, a20, a21, a22, a23, a24, a25, a26, a27) (nI z) := by
  unfold wpX_carryOut
  exact ⟨vp_in_nI hz (by omega), nm_r (e' := nI o) (by rw [nI_clamp (by omega), ho]) (br_t (nI_le (b := 300) (by omega) (by decide)) (br_f (fun e => absurd ((nI_eq (b := 300) (by omega) (by decide)).mp e) (by omega)) H))⟩
theorem zc_blk {post : Int32 → St2 → Prop} {z h j : Nat} {v : Int32} (hz : z < 400) (hh : h < 80) (hj : j < 15) (ho : a15 z = nI (143 + j)) (hv : a10 j = v) (H : post (nI z + 1) (ti, ac, ru, wc, sz, dp, lo, ex, nI (h + 1), al, ov, a1, a2, a3, a4, a5, a6, a7, a8, a9, a10, a11, a12, a13, a14, a15, a16, a17, a18, a19, a20, a21, a22, a23, a24, upd a25 h v, a26, a27)) : wpX_carryOut post (ti, ac, ru, wc, sz, dp, lo, ex, nI h, al, ov, a1, a2, a3, a4, a5, a6, a7, a8, a9, a10, a11, a12, a13, a14, a15, a16, a17, a18, a19, a20, a21, a22, a23, a24, a25, a26, a27) (nI z) := by
  refine zc_low hz ho (by omega) (br_t (nI_lt (a := 34) (by omega) (by omega)) (br_t (nI_le (a := 100) (by omega) (by omega)) (br_t (nI_lt (a := 128) (by omega) (by omega)) (br_t (nI_lt (a := 142) (by omega) (by omega)) ?_))))
  rw [show nI (143 + j) - 143 = nI (143 + j - 143) from pk_sub (b := 143) (by omega), show 143 + j - 143 = j by omega, nI_clamp (show j < 2 ^ 31 by omega), hv]
  exact ⟨vp_in_nI hj (by omega), mc_push hh H⟩
theorem zc_load {post : Int32 → St2 → Prop} {z h j : Nat} {v : Int32} (hz : z < 400) (hh : h < 80) (hj : j < 4) (ho : a15 z = nI (120 + j)) (hv : a4 j = v) (H : post (nI z + 1) (ti, ac, ru, wc, sz, dp, lo, ex, nI (h + 1), al, ov, a1, a2, a3, a4, a5, a6, a7, a8, a9, a10, a11, a12, a13, a14, a15, a16, a17, a18, a19, a20, a21, a22, a23, a24, upd a25 h v, a26, a27)) : wpX_carryOut post (ti, ac, ru, wc, sz, dp, lo, ex, nI h, al, ov, a1, a2, a3, a4, a5, a6, a7, a8, a9, a10, a11, a12, a13, a14, a15, a16, a17, a18, a19, a20, a21, a22, a23, a24, a25, a26, a27) (nI z) := by
  refine zc_low hz ho (by omega) (br_t (nI_lt (a := 34) (by omega) (by omega)) (br_t (nI_le (a := 100) (by omega) (by omega)) (br_f (nI_nlt (b := 120 + j) (a := 128) (by omega) (by omega)) ?_)))
  unfold wpX_load
  refine br_t (nI_le (a := 120) (by omega) (by omega)) (br_f (nI_ge (b := 124) (by omega) (by omega)) ?_)
  rw [show nI (120 + j) - 120 = nI (120 + j - 120) from pk_sub (b := 120) (by omega), show 120 + j - 120 = j by omega, nI_clamp (show j < 2 ^ 31 by omega), hv]
  exact ⟨vp_in_nI hj (by omega), mc_push hh H⟩
theorem zc_two {post : Int32 → St2 → Prop} {z h o : Nat} {x y r : Int32} (hz : z < 400) (hh : h + 2 ≤ 80) (h1 : o = 130 ∨ o = 132) (ho : a15 z = nI o) (hx : a25 h = x) (hy : a25 (h + 1) = y) (hr : r = if o = 130 then x + y else x * y) (H : post (nI z + 1) (ti, ac, ru, wc, sz, dp, lo, ex, nI (h + 1), al, ov, a1, a2, a3, a4, a5, a6, a7, a8, a9, a10, a11, a12, a13, a14, a15, a16, a17, a18, a19, a20, a21, a22, a23, a24, upd a25 h r, a26, a27)) : wpX_carryOut post (ti, ac, ru, wc, sz, dp, lo, ex, nI (h + 2), al, ov, a1, a2, a3, a4, a5, a6, a7, a8, a9, a10, a11, a12, a13, a14, a15, a16, a17, a18, a19, a20, a21, a22, a23, a24, a25, a26, a27) (nI z) := by
  refine zc_low hz ho (by omega) (br_t (nI_lt (a := 34) (by omega) (by omega)) (br_t (nI_le (a := 100) (by omega) (by omega)) (br_t (nI_lt (a := 128) (by omega) (by omega)) (br_f (nI_nlt (b := o) (a := 142) (by omega) (by omega)) ?_))))
  unfold wpX_compute
  refine mc_pop (h := h + 1) (by omega) hy (br_f (fun e => absurd ((nI_eq (b := 139) (by omega) (by decide)).mp e) (by omega)) (mc_pop (by omega) hx (br_f (fun e => absurd ((nI_eq (b := 142) (by omega) (by decide)).mp e) (by omega)) ?_)))
  rcases h1 with rfl | rfl
  · rw [if_pos rfl] at hr
    subst hr
    exact br_t rfl (mc_push (by omega) H)
  · rw [if_neg (by decide)] at hr
    subst hr
    exact br_f (by decide) (br_f (by decide) (br_t rfl (mc_push (by omega) H)))
theorem zc_chg {post : Int32 → St2 → Prop} {z h j : Nat} {v : Int32} (hz : z < 400) (hh : h < 80) (hj : j < 16) (ho : a15 z = nI (10 + j)) (hv : a25 h = v) (H : post (nI z + 1) (ti, ac, ru, wc, sz, dp, lo, ex, nI h, al, ov, upd a1 j v, a2, a3, a4, a5, a6, a7, a8, a9, a10, a11, a12, a13, a14, a15, a16, a17, a18, a19, a20, a21, a22, a23, a24, a25, a26, a27)) : wpX_carryOut post (ti, ac, ru, wc, sz, dp, lo, ex, nI (h + 1), al, ov, a1, a2, a3, a4, a5, a6, a7, a8, a9, a10, a11, a12, a13, a14, a15, a16, a17, a18, a19, a20, a21, a22, a23, a24, a25, a26, a27) (nI z) := by
  refine zc_low hz ho (by omega) (br_f (nI_nlt (b := 10 + j) (a := 34) (by omega) (by omega)) ?_)
  unfold wpX_change
  refine mc_pop hh hv ?_
  rw [show nI (10 + j) - 10 = nI (10 + j - 10) from pk_sub (b := 10) (by omega), show 10 + j - 10 = j by omega, nI_clamp (show j < 2 ^ 31 by omega)]
  exact br_f (nI_ge (b := 30) (by omega) (by omega)) ⟨vp_in_nI hj (by omega), nm_e H⟩
theorem zc_timer {post : Int32 → St2 → Prop} {z k h : Nat} {v pr e : Int32} (hz : z < 400) (ho : a15 z = nI (60 + k)) (hk : k < 3) (hh : h + 2 ≤ 80) (hv : a25 h = v) (hp : a25 (h + 1) = pr) (he : e = if v = 0 then 0 else 1) (H : ∀ b7 c10 : Nat → Int32, b7 = rt_b7 a6 a7 k ti e → c10 = upd (upd a10 (3 + k) (if e = 0 then 0 else if pr ≤ ti - b7 k then (if 0 ≤ pr then pr else 0) else ti - b7 k)) k (if e = 0 then 0 else if ti - b7 k < pr then 0 else 1) → post (nI z + 1) (ti, ac, ru, wc, sz, dp, lo, ex, nI h, al, ov, a1, a2, a3, a4, a5, upd a6 k e, b7, a8, a9, c10, a11, a12, a13, a14, a15, a16, a17, a18, a19, a20, a21, a22, a23, a24, a25, a26, a27)) : wpX_carryOut post (ti, ac, ru, wc, sz, dp, lo, ex, nI (h + 2), al, ov, a1, a2, a3, a4, a5, a6, a7, a8, a9, a10, a11, a12, a13, a14, a15, a16, a17, a18, a19, a20, a21, a22, a23, a24, a25, a26, a27) (nI z) := by
  refine zc_low hz ho (by omega) (br_t (nI_lt (a := 34) (by omega) (by omega)) (br_f (nI_ge (b := 100) (by omega) (by omega)) ?_))
  unfold wpX_runBlock
  rw [show nI (60 + k) - 60 = nI (60 + k - 60) from pk_sub (b := 60) (by omega), show 60 + k - 60 = k by omega]
  exact br_f (nI_ge (b := 63) (by omega) (by omega)) (rt_timer hk hh hv hp he (fun b7 h7 => H b7 _ h7 rfl))
theorem zc_counter {post : Int32 → St2 → Prop} {z k h : Nat} {v w pr e f : Int32} (hz : z < 400) (ho : a15 z = nI (63 + k)) (hk : k < 3) (hh : h + 3 ≤ 80) (hv : a25 h = v) (hw : a25 (h + 1) = w) (hp : a25 (h + 2) = pr) (he : e = if v = 0 then 0 else 1) (hf : f = if w = 0 then 0 else 1) (H : ∀ b10 : Nat → Int32, b10 (6 + k) = rc_v f e (a8 k) (a10 (6 + k)) → (∀ j, j ≠ 6 + k → b10 j = a10 j) → ∀ c10 : Nat → Int32, c10 = upd b10 (9 + k) (if rc_v f e (a8 k) (a10 (6 + k)) < pr then 0 else 1) → post (nI z + 1) (ti, ac, ru, wc, sz, dp, lo, ex, nI h, al, ov, a1, a2, a3, a4, a5, a6, a7, upd a8 k e, a9, c10, a11, a12, a13, a14, a15, a16, a17, a18, a19, a20, a21, a22, a23, a24, a25, a26, a27)) : wpX_carryOut post (ti, ac, ru, wc, sz, dp, lo, ex, nI (h + 3), al, ov, a1, a2, a3, a4, a5, a6, a7, a8, a9, a10, a11, a12, a13, a14, a15, a16, a17, a18, a19, a20, a21, a22, a23, a24, a25, a26, a27) (nI z) := by
  refine zc_low hz ho (by omega) (br_t (nI_lt (a := 34) (by omega) (by omega)) (br_f (nI_ge (b := 100) (by omega) (by omega)) ?_))
  unfold wpX_runBlock
  rw [show nI (63 + k) - 63 = nI (63 + k - 63) from pk_sub (b := 63) (by omega), show 63 + k - 63 = k by omega]
  exact br_t (nI_le (a := 63) (by omega) (by omega)) (br_f (nI_ge (b := 66) (by omega) (by omega)) (rc_counter hk hh hv hw hp he hf (fun b10 h1 h2 => H b10 h1 h2 _ rfl)))
theorem zc_edge {post : Int32 → St2 → Prop} {z k h : Nat} {v e : Int32} (hz : z < 400) (ho : a15 z = nI (66 + k)) (hk : k < 3) (hh : h < 80) (hv : a25 h = v) (he : e = if v = 0 then 0 else 1) (H : ∀ c10 : Nat → Int32, c10 = upd a10 (12 + k) (if e = 0 then 0 else if a9 k = 0 then 1 else 0) → post (nI z + 1) (ti, ac, ru, wc, sz, dp, lo, ex, nI h, al, ov, a1, a2, a3, a4, a5, a6, a7, a8, upd a9 k e, c10, a11, a12, a13, a14, a15, a16, a17, a18, a19, a20, a21, a22, a23, a24, a25, a26, a27)) : wpX_carryOut post (ti, ac, ru, wc, sz, dp, lo, ex, nI (h + 1), al, ov, a1, a2, a3, a4, a5, a6, a7, a8, a9, a10, a11, a12, a13, a14, a15, a16, a17, a18, a19, a20, a21, a22, a23, a24, a25, a26, a27) (nI z) := by
  refine zc_low hz ho (by omega) (br_t (nI_lt (a := 34) (by omega) (by omega)) (br_f (nI_ge (b := 100) (by omega) (by omega)) ?_))
  unfold wpX_runBlock
  rw [show nI (66 + k) - 66 = nI (66 + k - 66) from pk_sub (b := 66) (by omega), show 66 + k - 66 = k by omega]
  exact br_t (nI_le (a := 63) (by omega) (by omega)) (br_t (nI_le (a := 66) (by omega) (by omega)) (re_edge hk hh hv he (H _ rfl)))
theorem zc_over {post : Int32 → St2 → Prop} {z : Nat} (hz : z < 400) (ho : a15 z = nI 311) (H : post (nI z + 1) (ti, ac, ru, wc, sz, dp, lo, ex, hei, al, 1, a1, a2, a3, a4, a5, a6, a7, a8, a9, a10, a11, a12, a13, a14, a15, a16, a17, a18, a19, a20, a21, a22, a23, a24, a25, a26, a27)) : wpX_carryOut post (ti, ac, ru, wc, sz, dp, lo, ex, hei, al, ov, a1, a2, a3, a4, a5, a6, a7, a8, a9, a10, a11, a12, a13, a14, a15, a16, a17, a18, a19, a20, a21, a22, a23, a24, a25, a26, a27) (nI z) := by
  unfold wpX_carryOut
  refine ⟨vp_in_nI hz (by omega), nm_r (e' := nI 311) (by rw [nI_clamp (by omega), ho]) (br_f (by decide) ?_)⟩
  unfold wpX_steer
  refine ⟨vp_in_nI hz (by omega), nm_r (e' := nI 311) (by rw [nI_clamp (by omega), ho]) ⟨vp_in_nI hz (by omega), nm_e (br_f (by decide) (br_f (by decide) (br_f (by decide) (br_f (by decide) (br_f (by decide) (br_f (by decide) ?_))))))⟩⟩
  unfold wpX_begin
  exact br_f (by decide) (br_f (by decide) (br_f (by decide) (br_f (by decide) H)))
end
end
section
/-! a cycle: the 24 instructions -/
def cy_sh (e pr go : Int32) : Int32 := if e = 0 then 0 else if pr ≤ go then (if 0 ≤ pr then pr else 0) else go
def cy_dn (e pr go : Int32) : Int32 := if e = 0 then 0 else if go < pr then 0 else 1
def cy_F (k : Nat) (T e f pr go : Int32) (a1 a6 a7 a8 a9 a10 b1 b6 b7 b8 b9 b10 : Nat → Int32) : Prop :=
  b6 k = e ∧ b7 k = (if e = 0 then a7 k else if a6 k = 0 then T else a7 k) ∧ b8 k = e ∧ b9 k = e ∧
  b10 (3 + k) = cy_sh e pr (T - b7 k) ∧ b10 k = cy_dn e pr (T - b7 k) ∧ b10 (6 + k) = rc_v f e (a8 k) (a10 (6 + k)) ∧
  b10 (9 + k) = (if b10 (6 + k) < go then 0 else 1) ∧ b10 (12 + k) = (if e = 0 then 0 else if a9 k = 0 then 1 else 0) ∧
  (∀ j, j ≠ k → j ≠ 3 + k → j ≠ 6 + k → j ≠ 9 + k → j ≠ 12 + k → b10 j = a10 j) ∧
  b1 4 = b10 (3 + k) + b10 k * 40 ∧ b1 5 = b10 (6 + k) + (b10 (9 + k) * 40 + b10 (12 + k)) ∧ (∀ j, j ≠ 4 → j ≠ 5 → b1 j = a1 j)
section
variable {ti ac ru wc sz dp lo ex hei al ov : Int32} {a1 a2 a3 a4 a5 a6 a7 a8 a9 a10 a11 a12 a13 a14 a15 a16 a17 a18 a19 a20 a21 a22 a23 a24 a25 a26 a27 : Nat → Int32}
theorem cy_in {post : Int32 → St2 → Prop} {n z : Nat} (hz : z < 24) (H : wpX_carryOut (fun r u => match u with | (ti_q, ac_q, ru_q, wc_q, sz_q, dp_q, lo_q, ex_q, hei_q, al_q, ov_q, a1_q, a2_q, a3_q, a4_q, a5_q, a6_q, a7_q, a8_q, a9_q, a10_q, a11_q, a12_q, a13_q, a14_q, a15_q, a16_q, a17_q, a18_q, a19_q, a20_q, a21_q, a22_q, a23_q, a24_q, a25_q, a26_q, a27_q) => ∀ x : Int32, x = nI z + 1 → wX_cycle_76 post n r x ti_q ac_q ru_q wc_q sz_q dp_q lo_q ex_q hei_q al_q ov_q a1_q a2_q a3_q a4_q a5_q a6_q a7_q a8_q a9_q a10_q a11_q a12_q a13_q a14_q a15_q a16_q a17_q a18_q a19_q a20_q a21_q a22_q a23_q a24_q a25_q a26_q a27_q) (ti, ac, ru, wc, nI 24, dp, lo, ex, hei, al, 0, a1, a2, a3, a4, a5, a6, a7, a8, a9, a10, a11, a12, a13, a14, a15, a16, a17, a18, a19, a20, a21, a22, a23, a24, a25, a26, a27) (nI z)) : wX_cycle_76 post (n + 1) (nI z) (nI z) ti ac ru wc (nI 24) dp lo ex hei al 0 a1 a2 a3 a4 a5 a6 a7 a8 a9 a10 a11 a12 a13 a14 a15 a16 a17 a18 a19 a20 a21 a22 a23 a24 a25 a26 a27 :=
  br_f (nI_ge (b := 200000) (by omega) (by decide)) (br_t rfl (br_f (nI_ge hz (by decide)) H))
theorem cy_next {post : Int32 → St2 → Prop} {n z : Nat} (H : wX_cycle_76 post n (nI (z + 1)) (nI (z + 1)) ti ac ru wc sz dp lo ex hei al ov a1 a2 a3 a4 a5 a6 a7 a8 a9 a10 a11 a12 a13 a14 a15 a16 a17 a18 a19 a20 a21 a22 a23 a24 a25 a26 a27) : ∀ x : Int32, x = nI z + 1 → wX_cycle_76 post n (nI z + 1) x ti ac ru wc sz dp lo ex hei al ov a1 a2 a3 a4 a5 a6 a7 a8 a9 a10 a11 a12 a13 a14 a15 a16 a17 a18 a19 a20 a21 a22 a23 a24 a25 a26 a27 := by
  intro x e
  rw [e, nI_1]
  exact H
theorem cy_run {post : Int32 → St2 → Prop} {k l g : Nat} {v w e f : Int32} (hk : k < 3) (hc : ∀ j, j < 24 → a15 j = cd_op k l g j ∧ a16 j = cd_ar k l g j) (hv : a4 0 = v) (hw : a4 1 = w) (he : e = if v = 0 then 0 else 1) (hf : f = if w = 0 then 0 else 1)
    (H : ∀ b1 b6 b7 b8 b9 b10 b25 : Nat → Int32, cy_F k ti e f (nI (246 + l) - 250) (nI (249 + g) - 250) a1 a6 a7 a8 a9 a10 b1 b6 b7 b8 b9 b10 → post 0 (ti, ac, ru, wc, nI 24, dp, lo, ex, nI 0, 0, 1, b1, a2, a3, a4, a5, b6, b7, b8, b9, b10, a11, a12, a13, a14, a15, a16, a17, a18, a19, a20, a21, a22, a23, a24, b25, a26, a27)) :
    wX_cycle_76 post 25 (nI 0) (nI 0) ti ac ru wc (nI 24) dp lo ex (nI 0) 0 0 a1 a2 a3 a4 a5 a6 a7 a8 a9 a10 a11 a12 a13 a14 a15 a16 a17 a18 a19 a20 a21 a22 a23 a24 a25 a26 a27 := by
  have o0 : a15 0 = nI (120 + 0) := (hc 0 (by decide)).1
  have o1 : a15 1 = nI 300 := (hc 1 (by decide)).1
  have o2 : a15 2 = nI (60 + k) := (hc 2 (by decide)).1
  have o3 : a15 3 = nI (120 + 0) := (hc 3 (by decide)).1
  have o4 : a15 4 = nI (120 + 1) := (hc 4 (by decide)).1
  have o5 : a15 5 = nI 300 := (hc 5 (by decide)).1
  have o6 : a15 6 = nI (63 + k) := (hc 6 (by decide)).1
  have o7 : a15 7 = nI (120 + 0) := (hc 7 (by decide)).1
  have o8 : a15 8 = nI (66 + k) := (hc 8 (by decide)).1
  have o9 : a15 9 = nI (143 + (3 + k)) := by
    rw [show 143 + (3 + k) = 146 + k by omega]
    exact (hc 9 (by decide)).1
  have o10 : a15 10 = nI (143 + k) := (hc 10 (by decide)).1
  have o11 : a15 11 = nI 300 := (hc 11 (by decide)).1
  have o12 : a15 12 = nI 132 := (hc 12 (by decide)).1
  have o13 : a15 13 = nI 130 := (hc 13 (by decide)).1
  have o14 : a15 14 = nI (10 + 4) := (hc 14 (by decide)).1
  have o15 : a15 15 = nI (143 + (6 + k)) := by
    rw [show 143 + (6 + k) = 149 + k by omega]
    exact (hc 15 (by decide)).1
  have o16 : a15 16 = nI (143 + (9 + k)) := by
    rw [show 143 + (9 + k) = 152 + k by omega]
    exact (hc 16 (by decide)).1
  have o17 : a15 17 = nI 300 := (hc 17 (by decide)).1
  have o18 : a15 18 = nI 132 := (hc 18 (by decide)).1
  have o19 : a15 19 = nI (143 + (12 + k)) := by
    rw [show 143 + (12 + k) = 155 + k by omega]
    exact (hc 19 (by decide)).1
  have o20 : a15 20 = nI 130 := (hc 20 (by decide)).1
  have o21 : a15 21 = nI 130 := (hc 21 (by decide)).1
  have o22 : a15 22 = nI (10 + 5) := (hc 22 (by decide)).1
  have o23 : a15 23 = nI 311 := (hc 23 (by decide)).1
  have q1 : a16 1 = nI (246 + l) - 250 := (hc 1 (by decide)).2
  have q5 : a16 5 = nI (249 + g) - 250 := (hc 5 (by decide)).2
  have q11 : a16 11 = 40 := (show a16 11 = nI 290 - 250 from (hc 11 (by decide)).2).trans (by decide)
  have q17 : a16 17 = 40 := (show a16 17 = nI 290 - 250 from (hc 17 (by decide)).2).trans (by decide)
  refine cy_in (z := 0) (by decide) (zc_load (j := 0) (h := 0) (by decide) (by decide) (by decide) o0 hv (cy_next ?_))
  refine cy_in (z := 1) (by decide) (zc_push (h := 1) (by decide) (by decide) o1 q1 (cy_next ?_))
  refine cy_in (z := 2) (by decide) (zc_timer (h := 0) (by decide) o2 hk (by decide) ((pk_un (by decide)).trans pk_us) pk_us he (fun b7 c10 h7 hc10 => cy_next ?_))
  refine cy_in (z := 3) (by decide) (zc_load (j := 0) (h := 0) (by decide) (by decide) (by decide) o3 hv (cy_next ?_))
  refine cy_in (z := 4) (by decide) (zc_load (j := 1) (h := 1) (by decide) (by decide) (by decide) o4 hw (cy_next ?_))
  refine cy_in (z := 5) (by decide) (zc_push (h := 2) (by decide) (by decide) o5 q5 (cy_next ?_))
  refine cy_in (z := 6) (by decide) (zc_counter (h := 0) (by decide) o6 hk (by decide) ((pk_un (by decide)).trans ((pk_un (by decide)).trans pk_us)) ((pk_un (by decide)).trans pk_us) pk_us he hf (fun d10 hd1 hd2 e10 he10 => cy_next ?_))
  refine cy_in (z := 7) (by decide) (zc_load (j := 0) (h := 0) (by decide) (by decide) (by decide) o7 hv (cy_next ?_))
  refine cy_in (z := 8) (by decide) (zc_edge (h := 0) (by decide) o8 hk (by decide) pk_us he (fun b10 hb10 => cy_next ?_))
  refine cy_in (z := 9) (by decide) (zc_blk (h := 0) (j := 3 + k) (by decide) (by decide) (by omega) o9 rfl (cy_next ?_))
  refine cy_in (z := 10) (by decide) (zc_blk (h := 1) (j := k) (by decide) (by decide) (by omega) o10 rfl (cy_next ?_))
  refine cy_in (z := 11) (by decide) (zc_push (h := 2) (by decide) (by decide) o11 q11 (cy_next ?_))
  refine cy_in (z := 12) (by decide) (zc_two (h := 1) (o := 132) (by decide) (by decide) (Or.inr rfl) o12 ((pk_un (by decide)).trans pk_us) pk_us (if_neg (by decide)).symm (cy_next ?_))
  refine cy_in (z := 13) (by decide) (zc_two (h := 0) (o := 130) (by decide) (by decide) (Or.inl rfl) o13 ((pk_un (by decide)).trans ((pk_un (by decide)).trans ((pk_un (by decide)).trans pk_us))) pk_us (if_pos rfl).symm (cy_next ?_))
  refine cy_in (z := 14) (by decide) (zc_chg (h := 0) (j := 4) (by decide) (by decide) (by decide) o14 pk_us (cy_next ?_))
  refine cy_in (z := 15) (by decide) (zc_blk (h := 0) (j := 6 + k) (by decide) (by decide) (by omega) o15 rfl (cy_next ?_))
  refine cy_in (z := 16) (by decide) (zc_blk (h := 1) (j := 9 + k) (by decide) (by decide) (by omega) o16 rfl (cy_next ?_))
  refine cy_in (z := 17) (by decide) (zc_push (h := 2) (by decide) (by decide) o17 q17 (cy_next ?_))
  refine cy_in (z := 18) (by decide) (zc_two (h := 1) (o := 132) (by decide) (by decide) (Or.inr rfl) o18 ((pk_un (by decide)).trans pk_us) pk_us (if_neg (by decide)).symm (cy_next ?_))
  refine cy_in (z := 19) (by decide) (zc_blk (h := 2) (j := 12 + k) (by decide) (by decide) (by omega) o19 rfl (cy_next ?_))
  refine cy_in (z := 20) (by decide) (zc_two (h := 1) (o := 130) (by decide) (by decide) (Or.inl rfl) o20 ((pk_un (by decide)).trans pk_us) pk_us (if_pos rfl).symm (cy_next ?_))
  refine cy_in (z := 21) (by decide) (zc_two (h := 0) (o := 130) (by decide) (by decide) (Or.inl rfl) o21 ((pk_un (by decide)).trans ((pk_un (by decide)).trans ((pk_un (by decide)).trans ((pk_un (by decide)).trans ((pk_un (by decide)).trans pk_us))))) pk_us (if_pos rfl).symm (cy_next ?_))
  refine cy_in (z := 22) (by decide) (zc_chg (h := 0) (j := 5) (by decide) (by decide) (by decide) o22 pk_us (cy_next ?_))
  refine cy_in (z := 23) (by decide) (zc_over (by decide) o23 (cy_next ?_))
  refine br_f (nI_ge (b := 200000) (by omega) (by decide)) (br_f (by decide) ?_)
  refine H _ _ b7 _ _ b10 _ ?_
  have r1 : b10 (12 + k) = (if e = 0 then 0 else if a9 k = 0 then 1 else 0) := by rw [hb10, pk_us]
  have r2 : ∀ j, j ≠ 12 + k → b10 j = e10 j := fun j hj => by rw [hb10, pk_un hj]
  have r3 : b10 (6 + k) = rc_v f e (a8 k) (a10 (6 + k)) := by
    rw [r2 _ (by omega), he10, pk_un (by omega), hd1, hc10, pk_un (by omega), pk_un (by omega)]
  have r4 : ∀ j, j ≠ 12 + k → j ≠ 9 + k → j ≠ 6 + k → b10 j = c10 j := fun j h1 h2 h3 => by rw [r2 j h1, he10, pk_un h2, hd2 j h3]
  refine ⟨pk_us, ?_, pk_us, pk_us, ?_, ?_, r3, ?_, r1, ?_, ?_, ?_, ?_⟩
  · rw [h7]
    unfold rt_b7
    by_cases h0 : e = 0
    · rw [if_pos h0, if_pos h0]
    · rw [if_neg h0, if_neg h0]
      by_cases h6 : a6 k = 0
      · rw [if_pos h6, if_pos h6, pk_us]
      · rw [if_neg h6, if_neg h6]
  · rw [r4 _ (by omega) (by omega) (by omega), hc10, pk_un (by omega), pk_us]
    rfl
  · rw [r4 _ (by omega) (by omega) (by omega), hc10, pk_us]
    rfl
  · rw [r2 (9 + k) (by omega), he10, pk_us, r3, hc10, pk_un (by omega), pk_un (by omega)]
  · intro j h1 h2 h3 h4 h5
    rw [r4 j h5 h4 h3, hc10, pk_un h1, pk_un h2]
  · rw [pk_un (by decide), pk_us]
  · rw [pk_us]
  · intro j h1 h2
    rw [pk_un h2, pk_un h1]
theorem cy_cycle {post : Int32 → St2 → Prop} {k l g : Nat} {v w e f p : Int32} (hk : k < 3) (hp : ¬ p < 0) (hp2 : p ≤ 100) (hc : ∀ j, j < 24 → a15 j = cd_op k l g j ∧ a16 j = cd_ar k l g j) (hv : a3 0 = v) (hw : a3 1 = w) (he : e = if v = 0 then 0 else 1) (hf : f = if w = 0 then 0 else 1)
    (H : ∀ b1 b4 b6 b7 b8 b9 b10 b25 : Nat → Int32, cy_F k (ti + p) e f (nI (246 + l) - 250) (nI (249 + g) - 250) a1 a6 a7 a8 a9 a10 b1 b6 b7 b8 b9 b10 → post 0 (ti + p, ac, 1, wc, nI 24, dp, lo, ex, nI 0, 0, 1, b1, a2, a3, b4, a5, b6, b7, b8, b9, b10, a11, a12, a13, a14, a15, a16, a17, a18, a19, a20, a21, a22, a23, a24, b25, a26, a27)) :
    wpX_cycle post (ti, ac, 1, wc, nI 24, dp, lo, ex, hei, al, ov, a1, a2, a3, a4, a5, a6, a7, a8, a9, a10, a11, a12, a13, a14, a15, a16, a17, a18, a19, a20, a21, a22, a23, a24, a25, a26, a27) p := by
  unfold wpX_cycle
  refine br_f hp (br_t hp2 (br_f (by decide) (nm_e ?_)))
  refine pk_loop (fun m i s => wX_cycle_34 post (ti + p) ac 1 wc (nI 24) dp lo ex hei al ov m (nI i) a1 a2 a3 s a5 a6 a7 a8 a9 a10 a11 a12 a13 a14 a15 a16 a17 a18 a19 a20 a21 a22 a23 a24 a25 a26 a27) (fun i s => ∀ j, j < i → s j = a3 j) 4 0 _ (by decide) (fun j hj => absurd hj (by omega)) ?_ ?_
  · intro m s hI
    refine br_t (by decide) ⟨25, ?_⟩
    exact cy_run (ti := ti + p) hk hc ((hI 0 (by decide)).trans hv) ((hI 1 (by decide)).trans hw) he hf (fun b1 b6 b7 b8 b9 b10 b25 hF => H b1 s b6 b7 b8 b9 b10 b25 hF)
  · intro m i s hi hI hw'
    refine br_f (nI_ge (b := 4) hi (by decide)) ⟨vp_in_nI hi (by decide), vp_in_nI hi (by decide), nm_r (e' := upd s i (a3 i)) (by rw [nI_clamp (by omega)]) (nm_r (nI_1 i) (hw' _ (fun j hj => ?_)))⟩
    by_cases e' : j = i
    · rw [e', pk_us]
    · rw [pk_un e']
      exact hI j (by omega)
/-- a cycle of a machine that doesn't run -/
theorem cy_none {post : Int32 → St2 → Prop} (H : post (-2) (ti, ac, 0, wc, sz, dp, lo, ex, hei, al, ov, a1, a2, a3, a4, a5, a6, a7, a8, a9, a10, a11, a12, a13, a14, a15, a16, a17, a18, a19, a20, a21, a22, a23, a24, a25, a26, a27)) : wpX_cycle post (ti, ac, 0, wc, sz, dp, lo, ex, hei, al, ov, a1, a2, a3, a4, a5, a6, a7, a8, a9, a10, a11, a12, a13, a14, a15, a16, a17, a18, a19, a20, a21, a22, a23, a24, a25, a26, a27) 3 := by
  unfold wpX_cycle
  exact br_f (by decide) (br_t (by decide) (br_t rfl H))
end
end
section
/-! restart, digest, block, variable, input, halt -/
section
variable {ti ac ru wc sz dp lo ex hei al ov : Int32} {a1 a2 a3 a4 a5 a6 a7 a8 a9 a10 a11 a12 a13 a14 a15 a16 a17 a18 a19 a20 a21 a22 a23 a24 a25 a26 a27 : Nat → Int32}
theorem lk_input {post : Int32 → St2 → Prop} {i : Nat} {x : Int32} (hi : i < 4) (H : post 0 (ti, ac, ru, wc, sz, dp, lo, ex, hei, al, ov, a1, a2, upd a3 i x, a4, a5, a6, a7, a8, a9, a10, a11, a12, a13, a14, a15, a16, a17, a18, a19, a20, a21, a22, a23, a24, a25, a26, a27)) : wpX_input post (ti, ac, ru, wc, sz, dp, lo, ex, hei, al, ov, a1, a2, a3, a4, a5, a6, a7, a8, a9, a10, a11, a12, a13, a14, a15, a16, a17, a18, a19, a20, a21, a22, a23, a24, a25, a26, a27) (nI i) x := by
  unfold wpX_input
  refine tk_isIn_w ?_
  have h1 : ∀ i, i < 4 → tk_isIn (nI i) 0 4 = 1 := by decide
  rw [h1 i hi, nI_clamp (by omega)]
  exact br_f (by decide) ⟨vp_in_nI hi (by decide), nm_e H⟩
theorem lk_halt {post : Int32 → St2 → Prop} (H : post 1 (ti, ac, 0, wc, sz, dp, lo, ex, hei, al, ov, a1, a2, a3, a4, a5, a6, a7, a8, a9, a10, a11, a12, a13, a14, a15, a16, a17, a18, a19, a20, a21, a22, a23, a24, a25, a26, a27)) : wpX_halt post (ti, ac, 1, wc, sz, dp, lo, ex, hei, al, ov, a1, a2, a3, a4, a5, a6, a7, a8, a9, a10, a11, a12, a13, a14, a15, a16, a17, a18, a19, a20, a21, a22, a23, a24, a25, a26, a27) := by
  unfold wpX_halt
  exact br_f (by decide) H
theorem lk_var {post : Int32 → Prop} {i : Nat} (hi : i < 16) (H : post (a1 i)) : wpX_variable post (ti, ac, ru, wc, sz, dp, lo, ex, hei, al, ov, a1, a2, a3, a4, a5, a6, a7, a8, a9, a10, a11, a12, a13, a14, a15, a16, a17, a18, a19, a20, a21, a22, a23, a24, a25, a26, a27) (nI i) := by
  unfold wpX_variable
  refine tk_isIn_w ?_
  have h1 : ∀ i, i < 16 → tk_isIn (nI i) 0 16 = 1 := by decide
  rw [h1 i hi, nI_clamp (by omega)]
  exact br_f (by decide) ⟨vp_in_nI hi (by decide), H⟩
def lk_at (k w : Nat) : Nat := if w = 0 then 3 + k else if w = 1 then k else if w = 2 then 6 + k else if w = 3 then 9 + k else 12 + k
theorem lk_blockOf {post : Int32 → Prop} {k w : Nat} (hk : k < 3) (hw : w < 5) (H : post (a10 (lk_at k w))) : wpX_blockOf post (ti, ac, ru, wc, sz, dp, lo, ex, hei, al, ov, a1, a2, a3, a4, a5, a6, a7, a8, a9, a10, a11, a12, a13, a14, a15, a16, a17, a18, a19, a20, a21, a22, a23, a24, a25, a26, a27) (nI k) (nI w) := by
  unfold wpX_blockOf
  rw [show (3 : Int32) + nI k = nI (3 + k) from nI_add 3 k, show (6 : Int32) + nI k = nI (6 + k) from nI_add 6 k, show (9 : Int32) + nI k = nI (9 + k) from nI_add 9 k, show (12 : Int32) + nI k = nI (12 + k) from nI_add 12 k, nI_clamp (show k < 2 ^ 31 by omega), nI_clamp (show 3 + k < 2 ^ 31 by omega), nI_clamp (show 6 + k < 2 ^ 31 by omega), nI_clamp (show 9 + k < 2 ^ 31 by omega), nI_clamp (show 12 + k < 2 ^ 31 by omega)]
  have h5 : w = 0 ∨ w = 1 ∨ w = 2 ∨ w = 3 ∨ w = 4 := by omega
  rcases h5 with rfl | rfl | rfl | rfl | rfl
  · exact br_f (by decide) (br_t (by decide) ⟨vp_in_nI (by omega) (by decide), H⟩)
  · exact br_f (by decide) (br_f (by decide) ⟨vp_in_nI (by omega) (by decide), H⟩)
  · exact br_t (by decide) (br_t (by decide) ⟨vp_in_nI (by omega) (by decide), H⟩)
  · exact br_t (by decide) (br_f (by decide) (br_t (by decide) ⟨vp_in_nI (by omega) (by decide), H⟩))
  · exact br_t (by decide) (br_f (by decide) (br_f (by decide) ⟨vp_in_nI (by omega) (by decide), H⟩))
theorem lk_block {post : Int32 → Prop} {k w : Nat} (hk : k < 3) (hw : w < 5) (H : post (a10 (lk_at k w))) : wpX_block post (ti, ac, ru, wc, sz, dp, lo, ex, hei, al, ov, a1, a2, a3, a4, a5, a6, a7, a8, a9, a10, a11, a12, a13, a14, a15, a16, a17, a18, a19, a20, a21, a22, a23, a24, a25, a26, a27) (nI k) (nI w) := by
  unfold wpX_block
  refine tk_isIn_w ?_
  have h1 : ∀ i, i < 3 → tk_isIn (nI i) 0 3 = 1 := by decide
  have h2 : ∀ i, i < 5 → tk_isIn (nI i) 0 5 = 1 := by decide
  rw [h1 k hk]
  refine br_f (by decide) (tk_isIn_w ?_)
  rw [h2 w hw]
  exact br_f (by decide) (lk_blockOf hk hw H)
theorem lk_zz {s : Nat → Int32} {i : Nat} (hi : i < 100) (h : ∀ j, j < i → s j = 0) : ∀ j, j < i + 1 → upd s i 0 j = 0 := by
  intro j hj
  by_cases e : j = i
  · rw [e, pk_us]
  · rw [pk_un e]
    exact h j (by omega)
theorem lk_85 {post : St2 → Prop} (H : ∀ b6 b7 b8 b9 : Nat → Int32, (∀ j, j < 3 → b6 j = 0) → (∀ j, j < 3 → b8 j = 0) → (∀ j, j < 3 → b9 j = 0) → post (ti, ac, ru, wc, sz, dp, lo, ex, hei, al, ov, a1, a2, a3, a4, a5, b6, b7, b8, b9, a10, a11, a12, a13, a14, a15, a16, a17, a18, a19, a20, a21, a22, a23, a24, a25, a26, a27)) : ∃ n, wX_restart_85 post ti ac ru wc sz dp lo ex hei al ov n 0 a1 a2 a3 a4 a5 a6 a7 a8 a9 a10 a11 a12 a13 a14 a15 a16 a17 a18 a19 a20 a21 a22 a23 a24 a25 a26 a27 := by
  refine pk_loop (σ := (Nat → Int32) × (Nat → Int32) × (Nat → Int32) × (Nat → Int32)) (fun m i s => wX_restart_85 post ti ac ru wc sz dp lo ex hei al ov m (nI i) a1 a2 a3 a4 a5 s.1 s.2.1 s.2.2.1 s.2.2.2 a10 a11 a12 a13 a14 a15 a16 a17 a18 a19 a20 a21 a22 a23 a24 a25 a26 a27) (fun i s => (∀ j, j < i → s.1 j = 0) ∧ (∀ j, j < i → s.2.2.1 j = 0) ∧ (∀ j, j < i → s.2.2.2 j = 0)) 3 0 (a6, a7, a8, a9) (by decide) ⟨fun j hj => absurd hj (by omega), fun j hj => absurd hj (by omega), fun j hj => absurd hj (by omega)⟩ ?_ ?_
  · intro m s hI
    exact br_t (by decide) (H _ _ _ _ hI.1 hI.2.1 hI.2.2)
  · intro m i s hi hI hw
    refine br_f (nI_ge (b := 3) hi (by decide)) ⟨vp_in_nI hi (by decide), nm_r (e' := upd s.1 i 0) (by rw [nI_clamp (by omega)]) ⟨vp_in_nI hi (by decide), nm_r (e' := upd s.2.1 i 0) (by rw [nI_clamp (by omega)]) ⟨vp_in_nI hi (by decide), nm_r (e' := upd s.2.2.1 i 0) (by rw [nI_clamp (by omega)]) ⟨vp_in_nI hi (by decide), nm_r (e' := upd s.2.2.2 i 0) (by rw [nI_clamp (by omega)]) (nm_r (nI_1 i) ?_)⟩⟩⟩⟩
    exact hw (upd s.1 i 0, upd s.2.1 i 0, upd s.2.2.1 i 0, upd s.2.2.2 i 0) ⟨lk_zz (by omega) hI.1, lk_zz (by omega) hI.2.1, lk_zz (by omega) hI.2.2⟩
theorem lk_64 {post : St2 → Prop} (H : ∀ b10 : Nat → Int32, (∀ j, j < 15 → b10 j = 0) → ∃ n, wX_restart_85 post ti ac ru wc sz dp lo ex hei al ov n 0 a1 a2 a3 a4 a5 a6 a7 a8 a9 b10 a11 a12 a13 a14 a15 a16 a17 a18 a19 a20 a21 a22 a23 a24 a25 a26 a27) : ∃ n, wX_restart_64 post ti ac ru wc sz dp lo ex hei al ov n 0 a1 a2 a3 a4 a5 a6 a7 a8 a9 a10 a11 a12 a13 a14 a15 a16 a17 a18 a19 a20 a21 a22 a23 a24 a25 a26 a27 := by
  refine pk_loop (fun m i s => wX_restart_64 post ti ac ru wc sz dp lo ex hei al ov m (nI i) a1 a2 a3 a4 a5 a6 a7 a8 a9 s a11 a12 a13 a14 a15 a16 a17 a18 a19 a20 a21 a22 a23 a24 a25 a26 a27) (fun i s => ∀ j, j < i → s j = 0) 15 0 _ (by decide) (fun j hj => absurd hj (by omega)) ?_ ?_
  · intro m s hI
    exact br_t (by decide) (H s hI)
  · intro m i s hi hI hw
    exact br_f (nI_ge (b := 15) hi (by decide)) ⟨vp_in_nI hi (by decide), nm_r (e' := upd s i 0) (by rw [nI_clamp (by omega)]) (nm_r (nI_1 i) (hw _ (lk_zz (by omega) hI)))⟩
theorem lk_44 {post : St2 → Prop} (H : ∀ b5 : Nat → Int32, (∀ j, j < 4 → b5 j = 0) → ∃ n, wX_restart_64 post ti ac ru wc sz dp lo ex hei al ov n 0 a1 a2 a3 a4 b5 a6 a7 a8 a9 a10 a11 a12 a13 a14 a15 a16 a17 a18 a19 a20 a21 a22 a23 a24 a25 a26 a27) : ∃ n, wX_restart_44 post ti ac ru wc sz dp lo ex hei al ov n 0 a1 a2 a3 a4 a5 a6 a7 a8 a9 a10 a11 a12 a13 a14 a15 a16 a17 a18 a19 a20 a21 a22 a23 a24 a25 a26 a27 := by
  refine pk_loop (fun m i s => wX_restart_44 post ti ac ru wc sz dp lo ex hei al ov m (nI i) a1 a2 a3 a4 s a6 a7 a8 a9 a10 a11 a12 a13 a14 a15 a16 a17 a18 a19 a20 a21 a22 a23 a24 a25 a26 a27) (fun i s => ∀ j, j < i → s j = 0) 4 0 _ (by decide) (fun j hj => absurd hj (by omega)) ?_ ?_
  · intro m s hI
    exact br_t (by decide) (H s hI)
  · intro m i s hi hI hw
    exact br_f (nI_ge (b := 4) hi (by decide)) ⟨vp_in_nI hi (by decide), nm_r (e' := upd s i 0) (by rw [nI_clamp (by omega)]) (nm_r (nI_1 i) (hw _ (lk_zz (by omega) hI)))⟩
theorem lk_23 {post : St2 → Prop} (H : ∀ b2 : Nat → Int32, (∀ j, j < 8 → b2 j = 0) → ∃ n, wX_restart_44 post ti ac ru wc sz dp lo ex hei al ov n 0 a1 b2 a3 a4 a5 a6 a7 a8 a9 a10 a11 a12 a13 a14 a15 a16 a17 a18 a19 a20 a21 a22 a23 a24 a25 a26 a27) : ∃ n, wX_restart_23 post ti ac ru wc sz dp lo ex hei al ov n 0 a1 a2 a3 a4 a5 a6 a7 a8 a9 a10 a11 a12 a13 a14 a15 a16 a17 a18 a19 a20 a21 a22 a23 a24 a25 a26 a27 := by
  refine pk_loop (fun m i s => wX_restart_23 post ti ac ru wc sz dp lo ex hei al ov m (nI i) a1 s a3 a4 a5 a6 a7 a8 a9 a10 a11 a12 a13 a14 a15 a16 a17 a18 a19 a20 a21 a22 a23 a24 a25 a26 a27) (fun i s => ∀ j, j < i → s j = 0) 8 0 _ (by decide) (fun j hj => absurd hj (by omega)) ?_ ?_
  · intro m s hI
    exact br_t (by decide) (H s hI)
  · intro m i s hi hI hw
    exact br_f (nI_ge (b := 8) hi (by decide)) ⟨vp_in_nI hi (by decide), nm_r (e' := upd s i 0) (by rw [nI_clamp (by omega)]) (nm_r (nI_1 i) (hw _ (lk_zz (by omega) hI)))⟩
theorem lk_restart {post : St2 → Prop} (h1 : ∀ j, j < 4 → a1 j = 0) (H : ∀ b1 b2 b5 b6 b7 b8 b9 b10 : Nat → Int32, (∀ j, j < 16 → b1 j = 0) → (∀ j, j < 8 → b2 j = 0) → (∀ j, j < 4 → b5 j = 0) → (∀ j, j < 15 → b10 j = 0) → (∀ j, j < 3 → b6 j = 0) → (∀ j, j < 3 → b8 j = 0) → (∀ j, j < 3 → b9 j = 0) → post (ti, ac, ru, wc, sz, dp, lo, ex, hei, al, ov, b1, b2, a3, a4, b5, b6, b7, b8, b9, b10, a11, a12, a13, a14, a15, a16, a17, a18, a19, a20, a21, a22, a23, a24, a25, a26, a27)) : wpX_restart post (ti, ac, ru, wc, sz, dp, lo, ex, hei, al, ov, a1, a2, a3, a4, a5, a6, a7, a8, a9, a10, a11, a12, a13, a14, a15, a16, a17, a18, a19, a20, a21, a22, a23, a24, a25, a26, a27) := by
  unfold wpX_restart
  refine pk_loop (fun m i s => wX_restart_2 post ti ac ru wc sz dp lo ex hei al ov m (nI i) s a2 a3 a4 a5 a6 a7 a8 a9 a10 a11 a12 a13 a14 a15 a16 a17 a18 a19 a20 a21 a22 a23 a24 a25 a26 a27) (fun i s => ∀ j, j < i → s j = 0) 16 4 _ (by decide) h1 ?_ ?_
  · intro m b1 z1
    exact br_t (by decide) (lk_23 (fun b2 z2 => lk_44 (fun b5 z5 => lk_64 (fun b10 z10 => lk_85 (fun b6 b7 b8 b9 z6 z8 z9 => H b1 b2 b5 b6 b7 b8 b9 b10 z1 z2 z5 z10 z6 z8 z9)))))
  · intro m i s hi hI hw
    exact br_f (nI_ge (b := 16) hi (by decide)) ⟨vp_in_nI hi (by decide), nm_r (e' := upd s i 0) (by rw [nI_clamp (by omega)]) (nm_r (nI_1 i) (hw _ (lk_zz (by omega) hI)))⟩
theorem lk_86 {post : Int32 → Prop} (h10 : ∀ j, j < 15 → a10 j = 0) (H : post 0) : ∃ n, wX_digest_86 post ti ac ru wc sz dp lo ex hei al ov a1 a2 a3 a4 a5 a6 a7 a8 a9 a10 a11 a12 a13 a14 a15 a16 a17 a18 a19 a20 a21 a22 a23 a24 a25 a26 a27 n 0 0 := by
  refine pk_loop (σ := Unit) (fun m i _ => wX_digest_86 post ti ac ru wc sz dp lo ex hei al ov a1 a2 a3 a4 a5 a6 a7 a8 a9 a10 a11 a12 a13 a14 a15 a16 a17 a18 a19 a20 a21 a22 a23 a24 a25 a26 a27 m 0 (nI i)) (fun _ _ => True) 15 0 () (by decide) trivial ?_ ?_
  · intro m _ _
    exact br_t (by decide) H
  · intro m i _ hi _ hw
    refine br_f (nI_ge (b := 15) hi (by decide)) ⟨by decide, by decide, ?_⟩
    rw [show nI i - nI i / 5 * 5 = nI (i % 5) from pk_rem (d := 5) (by omega) (by decide) (by decide), show nI i / 5 = nI (i / 5) from pk_div (d := 5) (by omega) (by decide) (by decide)]
    refine lk_blockOf (by omega) (by omega) ?_
    have hl : ∀ k, k < 3 → ∀ w, w < 5 → lk_at k w < 15 := by decide
    rw [h10 _ (hl _ (by omega) _ (by omega))]
    exact nm_r (e' := 0) (by rw [Int32.mul_zero, Int32.add_zero]) (nm_r (nI_1 i) (hw () trivial))
theorem lk_59 {post : Int32 → Prop} (h5 : ∀ j, j < 4 → a5 j = 0) (H : ∃ n, wX_digest_86 post ti ac ru wc sz dp lo ex hei al ov a1 a2 a3 a4 a5 a6 a7 a8 a9 a10 a11 a12 a13 a14 a15 a16 a17 a18 a19 a20 a21 a22 a23 a24 a25 a26 a27 n 0 0) : ∃ n, wX_digest_59 post ti ac ru wc sz dp lo ex hei al ov a1 a2 a3 a4 a5 a6 a7 a8 a9 a10 a11 a12 a13 a14 a15 a16 a17 a18 a19 a20 a21 a22 a23 a24 a25 a26 a27 n 0 0 := by
  refine pk_loop (σ := Unit) (fun m i _ => wX_digest_59 post ti ac ru wc sz dp lo ex hei al ov a1 a2 a3 a4 a5 a6 a7 a8 a9 a10 a11 a12 a13 a14 a15 a16 a17 a18 a19 a20 a21 a22 a23 a24 a25 a26 a27 m 0 (nI i)) (fun _ _ => True) 4 0 () (by decide) trivial ?_ ?_
  · intro m _ _
    exact br_t (by decide) H
  · intro m i _ hi _ hw
    exact br_f (nI_ge (b := 4) hi (by decide)) ⟨vp_in_nI hi (by decide), nm_r (e' := 0) (by rw [nI_clamp (by omega), h5 i hi, Int32.mul_zero, Int32.add_zero]) (nm_r (nI_1 i) (hw () trivial))⟩
theorem lk_31 {post : Int32 → Prop} (h2 : ∀ j, j < 8 → a2 j = 0) (H : ∃ n, wX_digest_59 post ti ac ru wc sz dp lo ex hei al ov a1 a2 a3 a4 a5 a6 a7 a8 a9 a10 a11 a12 a13 a14 a15 a16 a17 a18 a19 a20 a21 a22 a23 a24 a25 a26 a27 n 0 0) : ∃ n, wX_digest_31 post ti ac ru wc sz dp lo ex hei al ov a1 a2 a3 a4 a5 a6 a7 a8 a9 a10 a11 a12 a13 a14 a15 a16 a17 a18 a19 a20 a21 a22 a23 a24 a25 a26 a27 n 0 0 := by
  refine pk_loop (σ := Unit) (fun m i _ => wX_digest_31 post ti ac ru wc sz dp lo ex hei al ov a1 a2 a3 a4 a5 a6 a7 a8 a9 a10 a11 a12 a13 a14 a15 a16 a17 a18 a19 a20 a21 a22 a23 a24 a25 a26 a27 m 0 (nI i)) (fun _ _ => True) 8 0 () (by decide) trivial ?_ ?_
  · intro m _ _
    exact br_t (by decide) H
  · intro m i _ hi _ hw
    exact br_f (nI_ge (b := 8) hi (by decide)) ⟨vp_in_nI hi (by decide), nm_r (e' := 0) (by rw [nI_clamp (by omega), h2 i hi, Int32.mul_zero, Int32.add_zero]) (nm_r (nI_1 i) (hw () trivial))⟩
theorem lk_digest {post : Int32 → Prop} (h1 : ∀ j, j < 16 → a1 j = 0) (h2 : ∀ j, j < 8 → a2 j = 0) (h5 : ∀ j, j < 4 → a5 j = 0) (h10 : ∀ j, j < 15 → a10 j = 0) (H : post 0) : wpX_digest post (ti, ac, ru, wc, sz, dp, lo, ex, hei, al, ov, a1, a2, a3, a4, a5, a6, a7, a8, a9, a10, a11, a12, a13, a14, a15, a16, a17, a18, a19, a20, a21, a22, a23, a24, a25, a26, a27) := by
  unfold wpX_digest
  refine pk_loop (σ := Unit) (fun m i _ => wX_digest_4 post ti ac ru wc sz dp lo ex hei al ov a1 a2 a3 a4 a5 a6 a7 a8 a9 a10 a11 a12 a13 a14 a15 a16 a17 a18 a19 a20 a21 a22 a23 a24 a25 a26 a27 m 0 (nI i)) (fun _ _ => True) 16 0 () (by decide) trivial ?_ ?_
  · intro m _ _
    exact br_t (by decide) (lk_31 h2 (lk_59 h5 (lk_86 h10 H)))
  · intro m i _ hi _ hw
    exact br_f (nI_ge (b := 16) hi (by decide)) ⟨vp_in_nI hi (by decide), nm_r (e' := 0) (by rw [nI_clamp (by omega), h1 i hi, Int32.mul_zero, Int32.add_zero]) (nm_r (nI_1 i) (hw () trivial))⟩
end
end
section
/-! the law's loop -/
def zl_I (k l g i : Nat) (x8 x9 x10 x11 x12 ti ac ru sz : Int32) (a1 a6 a7 a8 a9 a10 a11 a12 a15 a16 : Nat → Int32) : Prop :=
  ac = 0 ∧ ru = 1 ∧ sz = nI 24 ∧ ti = x11 ∧ (∀ j, j < 24 → a15 j = cd_op k l g j ∧ a16 j = cd_ar k l g j) ∧ a12 0 = nI 27 ∧ (∀ j, j < 27 → a11 j = tk_T k l g j) ∧
  a6 k = x8 ∧ (x8 ≠ 0 → a7 k = x10) ∧ a8 k = x9 ∧ a9 k = x9 ∧ a10 (6 + k) = x12 ∧
  (∀ j, j < 15 → j ≠ k → j ≠ 3 + k → j ≠ 6 + k → j ≠ 9 + k → j ≠ 12 + k → a10 j = 0) ∧ (∀ j, j < 4 → a1 j = 0) ∧
  (∃ b t : Nat, x10 = nI b ∧ x11 = nI t ∧ b ≤ t ∧ t ≤ 7 * i)
theorem zl_or (x : Int32) : ¬ (x ||| 1) = 0 := by
  intro h
  have h1 : (x ||| 1).toBitVec.getLsbD 0 = (0 : Int32).toBitVec.getLsbD 0 := by rw [h]
  simp at h1
theorem zl_pr (l : Nat) : nI (246 + l) - 250 = nI l - 4 := by
  rw [← nI_add 246 l]
  show (246 : Int32) + nI l - 250 = nI l - 4
  grind
theorem zl_go (g : Nat) : nI (249 + g) - 250 = nI g - 1 := by
  rw [← nI_add 249 g]
  show (249 : Int32) + nI g - 250 = nI g - 1
  grind
theorem zl_oth : ∀ k, k < 3 → ∀ w, w < 5 → lk_at ((k + 1) % 3) w < 15 ∧ lk_at ((k + 1) % 3) w ≠ k ∧ lk_at ((k + 1) % 3) w ≠ 3 + k ∧ lk_at ((k + 1) % 3) w ≠ 6 + k ∧ lk_at ((k + 1) % 3) w ≠ 9 + k ∧ lk_at ((k + 1) % 3) w ≠ 12 + k := by decide
section
variable {ti ac ru wc sz dp lo ex hei al ov : Int32} {a1 a2 a3 a4 a5 a6 a7 a8 a9 a10 a11 a12 a13 a14 a15 a16 a17 a18 a19 a20 a21 a22 a23 a24 a25 a26 a27 : Nat → Int32}
variable {post : Int32 → St0 → Prop} {mc ms kc ks : Nat} {J : Int32 → Int32 → Int32 → Int32 → Int32 → Int32 → Int32 → Int32 → Int32 → Int32 → Int32 → Int32 → Int32 → Int32 → Int32 → Int32 → Int32 → (Nat → Int32) → (Nat → Int32) → (Nat → Int32) → (Nat → Int32) → (Nat → Int32) → (Nat → Int32) → (Nat → Int32) → (Nat → Int32) → (Nat → Int32) → (Nat → Int32) → (Nat → Int32) → (Nat → Int32) → (Nat → Int32) → (Nat → Int32) → (Nat → Int32) → (Nat → Int32) → (Nat → Int32) → (Nat → Int32) → (Nat → Int32) → (Nat → Int32) → (Nat → Int32) → (Nat → Int32) → (Nat → Int32) → (Nat → Int32) → (Nat → Int32) → (Nat → Int32) → (Nat → Int32) →  Prop} {x0 x1 x2 x3 x5 x6 x7 x8 x9 x10 x11 x12 x13 x14 x15 : Int32} {k l g i : Nat}
theorem zl_785 (hk : k < 3) (hl : l < 32) (hg : g < 8) (hi : i < 20) (hI : zl_I k l g (i + 1) x8 x9 x10 x11 x12 ti ac ru sz a1 a6 a7 a8 a9 a10 a11 a12 a15 a16)
    (HJ : ∀ (x8 x9 x10 x11 x12 : Int32) (ti ac ru wc sz dp lo ex hei al ov : Int32) (a1 a2 a3 a4 a5 a6 a7 a8 a9 a10 a11 a12 a13 a14 a15 a16 a17 a18 a19 a20 a21 a22 a23 a24 a25 a26 a27 : Nat → Int32), zl_I k l g (i + 1) x8 x9 x10 x11 x12 ti ac ru sz a1 a6 a7 a8 a9 a10 a11 a12 a15 a16 → J x8 x9 x10 x11 x12 (nI (i + 1)) ti ac ru wc sz dp lo ex hei al ov a1 a2 a3 a4 a5 a6 a7 a8 a9 a10 a11 a12 a13 a14 a15 a16 a17 a18 a19 a20 a21 a22 a23 a24 a25 a26 a27) :
    wL_lawOf_785 post mc ms J x0 x1 x2 x3 (nI k) x6 x7 x8 x9 x10 x11 x12 (nI i) kc ks ti ac ru wc sz dp lo ex hei al ov a1 a2 a3 a4 a5 a6 a7 a8 a9 a10 a11 a12 a13 a14 a15 a16 a17 a18 a19 a20 a21 a22 a23 a24 a25 a26 a27 := by
  have hI' := hI
  obtain ⟨i1, i2, i3, i4, i5, i6, i7, i8, i9, i10, i11, i12, i13, i14, i15⟩ := hI'
  unfold wL_lawOf_785
  refine br_c (fun _ => ?_) (fun _ => nm_r (nI_1 i) (HJ _ _ _ _ _ ti ac ru wc sz dp lo ex hei al ov a1 a2 a3 a4 a5 a6 a7 a8 a9 a10 a11 a12 a13 a14 a15 a16 a17 a18 a19 a20 a21 a22 a23 a24 a25 a26 a27 hI))
  subst i1 i2
  refine lk_halt (cy_none (br_t rfl ?_))
  refine ac_activate hk hl hg i6 i7 (fun b13 b14 b15 b16 b17 b18 b19 hc => ?_)
  refine br_t rfl (lk_block (w := 2) hk (by decide) ?_)
  refine br_t i12 (nm_r (nI_1 i) (HJ _ _ _ _ _ ti 0 1 (nI 0) (nI 24) (nI 0) 0 0 hei al ov a1 a2 a3 a4 a5 a6 a7 a8 a9 a10 a11 a12 b13 b14 b15 b16 b17 b18 b19 a20 a21 a22 a23 a24 a25 a26 a27 ?_))
  exact ⟨rfl, rfl, rfl, i4, hc, i6, i7, i8, i9, i10, i11, i12, i13, i14, i15⟩
theorem zl_619 {x18 x19 x20 z0 : Int32} (hk : k < 3) (hl : l < 32) (hg : g < 8) (hi : i < 20) (hI : zl_I k l g (i + 1) x8 x14 x10 x11 x12 ti ac ru sz a1 a6 a7 a8 a9 a10 a11 a12 a15 a16)
    (h0 : a10 (3 + k) = x18) (h1 : a10 k = x19) (h3 : a10 (9 + k) = x20) (h4 : a10 (12 + k) = z0) (v4 : a1 4 = x18 + 40 * x19) (v5 : a1 5 = (x12 + 40 * x20) + z0)
    (HJ : ∀ (x8 x9 x10 x11 x12 : Int32) (ti ac ru wc sz dp lo ex hei al ov : Int32) (a1 a2 a3 a4 a5 a6 a7 a8 a9 a10 a11 a12 a13 a14 a15 a16 a17 a18 a19 a20 a21 a22 a23 a24 a25 a26 a27 : Nat → Int32), zl_I k l g (i + 1) x8 x9 x10 x11 x12 ti ac ru sz a1 a6 a7 a8 a9 a10 a11 a12 a15 a16 → J x8 x9 x10 x11 x12 (nI (i + 1)) ti ac ru wc sz dp lo ex hei al ov a1 a2 a3 a4 a5 a6 a7 a8 a9 a10 a11 a12 a13 a14 a15 a16 a17 a18 a19 a20 a21 a22 a23 a24 a25 a26 a27) :
    wL_lawOf_619 post mc ms J x0 x1 x2 x3 (nI k) x6 x7 x8 x10 x11 x12 (nI i) x14 x18 x19 x20 z0 kc ks ti ac ru wc sz dp lo ex hei al ov a1 a2 a3 a4 a5 a6 a7 a8 a9 a10 a11 a12 a13 a14 a15 a16 a17 a18 a19 a20 a21 a22 a23 a24 a25 a26 a27 := by
  have hI' := hI
  obtain ⟨i1, i2, i3, i4, i5, i6, i7, i8, i9, i10, i11, i12, i13, i14, i15⟩ := hI'
  unfold wL_lawOf_619
  refine lk_block (w := 0) hk (by decide) (br_t h0 ?_)
  refine lk_block (w := 1) hk (by decide) (br_t h1 ?_)
  refine lk_block (w := 2) hk (by decide) (br_t i12 ?_)
  refine lk_block (w := 3) hk (by decide) (br_t h3 ?_)
  refine lk_block (w := 4) hk (by decide) (br_t h4 ⟨by decide, by decide, ?_⟩)
  rw [show nI i - nI i / 5 * 5 = nI (i % 5) from pk_rem (d := 5) (by omega) (by decide) (by decide), nI_1, show nI (k + 1) - nI (k + 1) / 3 * 3 = nI ((k + 1) % 3) from pk_rem (d := 3) (by omega) (by decide) (by decide)]
  obtain ⟨w1, w2, w3, w4, w5, w6⟩ := zl_oth k hk (i % 5) (by omega)
  refine lk_block (by omega) (by omega) (br_t (i13 _ w1 w2 w3 w4 w5 w6) ?_)
  refine lk_var (i := 4) (by decide) (br_t v4 ?_)
  refine lk_var (i := 5) (by decide) (br_t v5 ?_)
  refine br_c (fun _ => ?_) (fun _ => zl_785 hk hl hg hi hI HJ)
  refine lk_restart i14 (fun b1 b2 b5 b6 b7 b8 b9 b10 c1 c2 c5 c10 c6 c8 c9 => ?_)
  refine lk_digest c1 c2 c5 c10 (br_t rfl ?_)
  refine zl_785 hk hl hg hi ⟨i1, i2, i3, i4, i5, i6, i7, c6 k hk, fun h => absurd rfl h, c8 k hk, c9 k hk, c10 _ (by omega), fun j hj _ _ _ _ _ => c10 j hj, fun j hj => c1 j (by omega), i15⟩ HJ
def zl_past (e t b : Int32) : Int32 := if e = 0 then 0 else t - b
def zl_z (pr pa : Int32) : Int32 := if pr ≤ pa then pr else pa
def zl_sh (e z : Int32) : Int32 := if e = 0 then 0 else if 0 ≤ z then z else 0
def zl_dn (e pa pr : Int32) : Int32 := if e = 0 then 0 else if pa < pr then 0 else 1
def zl_ct (v go : Int32) : Int32 := if v < go then 0 else 1
def zl_ed (e la : Int32) : Int32 := if e = 0 then 0 else if la = 0 then 1 else 0
theorem zl_602 {x18 x19 z0 : Int32} (H : wL_lawOf_619 post mc ms J x0 x1 x2 x3 x5 x6 x7 x8 x10 x11 x12 x13 x14 x18 x19 z0 (zl_ed x14 x9) kc ks ti ac ru wc sz dp lo ex hei al ov a1 a2 a3 a4 a5 a6 a7 a8 a9 a10 a11 a12 a13 a14 a15 a16 a17 a18 a19 a20 a21 a22 a23 a24 a25 a26 a27) : wL_lawOf_602 post mc ms J x0 x1 x2 x3 x5 x6 x7 x8 x9 x10 x11 x12 x13 x14 x18 x19 z0 kc ks ti ac ru wc sz dp lo ex hei al ov a1 a2 a3 a4 a5 a6 a7 a8 a9 a10 a11 a12 a13 a14 a15 a16 a17 a18 a19 a20 a21 a22 a23 a24 a25 a26 a27 := by
  unfold zl_ed at H
  unfold wL_lawOf_602 wL_lawOf_618
  exact tk_b2 (fun v => wL_lawOf_619 post mc ms J x0 x1 x2 x3 x5 x6 x7 x8 x10 x11 x12 x13 x14 x18 x19 z0 v kc ks ti ac ru wc sz dp lo ex hei al ov a1 a2 a3 a4 a5 a6 a7 a8 a9 a10 a11 a12 a13 a14 a15 a16 a17 a18 a19 a20 a21 a22 a23 a24 a25 a26 a27) H id (fun h => tk_b2 (fun v => wL_lawOf_619 post mc ms J x0 x1 x2 x3 x5 x6 x7 x8 x10 x11 x12 x13 x14 x18 x19 z0 v kc ks ti ac ru wc sz dp lo ex hei al ov a1 a2 a3 a4 a5 a6 a7 a8 a9 a10 a11 a12 a13 a14 a15 a16 a17 a18 a19 a20 a21 a22 a23 a24 a25 a26 a27) h id id)
theorem zl_588 {x18 x19 z0 : Int32} (H : wL_lawOf_619 post mc ms J x0 x1 x2 x3 x5 x6 x7 x8 x10 x11 z0 x13 x14 x18 x19 (zl_ct z0 x7) (zl_ed x14 x9) kc ks ti ac ru wc sz dp lo ex hei al ov a1 a2 a3 a4 a5 a6 a7 a8 a9 a10 a11 a12 a13 a14 a15 a16 a17 a18 a19 a20 a21 a22 a23 a24 a25 a26 a27) : wL_lawOf_588 post mc ms J x0 x1 x2 x3 x5 x6 x7 x8 x9 x10 x11 x13 x14 x18 x19 z0 kc ks ti ac ru wc sz dp lo ex hei al ov a1 a2 a3 a4 a5 a6 a7 a8 a9 a10 a11 a12 a13 a14 a15 a16 a17 a18 a19 a20 a21 a22 a23 a24 a25 a26 a27 := by
  unfold zl_ct at H
  unfold wL_lawOf_588
  exact tk_b2 (fun v => wL_lawOf_619 post mc ms J x0 x1 x2 x3 x5 x6 x7 x8 x10 x11 z0 x13 x14 x18 x19 v (zl_ed x14 x9) kc ks ti ac ru wc sz dp lo ex hei al ov a1 a2 a3 a4 a5 a6 a7 a8 a9 a10 a11 a12 a13 a14 a15 a16 a17 a18 a19 a20 a21 a22 a23 a24 a25 a26 a27) H zl_602 zl_602
theorem zl_558 {x18 z0 : Int32} (H : wL_lawOf_588 post mc ms J x0 x1 x2 x3 x5 x6 x7 x8 x9 x10 x11 x13 x14 x18 z0 (rc_v x15 x14 x9 x12) kc ks ti ac ru wc sz dp lo ex hei al ov a1 a2 a3 a4 a5 a6 a7 a8 a9 a10 a11 a12 a13 a14 a15 a16 a17 a18 a19 a20 a21 a22 a23 a24 a25 a26 a27) : wL_lawOf_558 post mc ms J x0 x1 x2 x3 x5 x6 x7 x8 x9 x10 x11 x12 x13 x14 x15 x18 z0 kc ks ti ac ru wc sz dp lo ex hei al ov a1 a2 a3 a4 a5 a6 a7 a8 a9 a10 a11 a12 a13 a14 a15 a16 a17 a18 a19 a20 a21 a22 a23 a24 a25 a26 a27 := by
  unfold rc_v at H
  unfold wL_lawOf_558 wL_lawOf_586
  exact tk_b2 (fun v => wL_lawOf_588 post mc ms J x0 x1 x2 x3 x5 x6 x7 x8 x9 x10 x11 x13 x14 x18 z0 v kc ks ti ac ru wc sz dp lo ex hei al ov a1 a2 a3 a4 a5 a6 a7 a8 a9 a10 a11 a12 a13 a14 a15 a16 a17 a18 a19 a20 a21 a22 a23 a24 a25 a26 a27) H (fun h => tk_b2 (fun v => wL_lawOf_588 post mc ms J x0 x1 x2 x3 x5 x6 x7 x8 x9 x10 x11 x13 x14 x18 z0 v kc ks ti ac ru wc sz dp lo ex hei al ov a1 a2 a3 a4 a5 a6 a7 a8 a9 a10 a11 a12 a13 a14 a15 a16 a17 a18 a19 a20 a21 a22 a23 a24 a25 a26 a27) h id (fun h => tk_b2 (fun v => wL_lawOf_588 post mc ms J x0 x1 x2 x3 x5 x6 x7 x8 x9 x10 x11 x13 x14 x18 z0 v kc ks ti ac ru wc sz dp lo ex hei al ov a1 a2 a3 a4 a5 a6 a7 a8 a9 a10 a11 a12 a13 a14 a15 a16 a17 a18 a19 a20 a21 a22 a23 a24 a25 a26 a27) h id id)) id
theorem zl_539 {x17 z0 : Int32} (H : wL_lawOf_558 post mc ms J x0 x1 x2 x3 x5 x6 x7 x8 x9 x10 x11 x12 x13 x14 x15 z0 (zl_dn x14 x17 x6) kc ks ti ac ru wc sz dp lo ex hei al ov a1 a2 a3 a4 a5 a6 a7 a8 a9 a10 a11 a12 a13 a14 a15 a16 a17 a18 a19 a20 a21 a22 a23 a24 a25 a26 a27) : wL_lawOf_539 post mc ms J x0 x1 x2 x3 x5 x6 x7 x8 x9 x10 x11 x12 x13 x14 x15 x17 z0 kc ks ti ac ru wc sz dp lo ex hei al ov a1 a2 a3 a4 a5 a6 a7 a8 a9 a10 a11 a12 a13 a14 a15 a16 a17 a18 a19 a20 a21 a22 a23 a24 a25 a26 a27 := by
  unfold zl_dn at H
  unfold wL_lawOf_539 wL_lawOf_557
  exact tk_b2 (fun v => wL_lawOf_558 post mc ms J x0 x1 x2 x3 x5 x6 x7 x8 x9 x10 x11 x12 x13 x14 x15 z0 v kc ks ti ac ru wc sz dp lo ex hei al ov a1 a2 a3 a4 a5 a6 a7 a8 a9 a10 a11 a12 a13 a14 a15 a16 a17 a18 a19 a20 a21 a22 a23 a24 a25 a26 a27) H id (fun h => tk_b2 (fun v => wL_lawOf_558 post mc ms J x0 x1 x2 x3 x5 x6 x7 x8 x9 x10 x11 x12 x13 x14 x15 z0 v kc ks ti ac ru wc sz dp lo ex hei al ov a1 a2 a3 a4 a5 a6 a7 a8 a9 a10 a11 a12 a13 a14 a15 a16 a17 a18 a19 a20 a21 a22 a23 a24 a25 a26 a27) h id id)
theorem zl_521 {x17 z0 : Int32} (H : wL_lawOf_539 post mc ms J x0 x1 x2 x3 x5 x6 x7 x8 x9 x10 x11 x12 x13 x14 x15 x17 (zl_sh x14 z0) kc ks ti ac ru wc sz dp lo ex hei al ov a1 a2 a3 a4 a5 a6 a7 a8 a9 a10 a11 a12 a13 a14 a15 a16 a17 a18 a19 a20 a21 a22 a23 a24 a25 a26 a27) : wL_lawOf_521 post mc ms J x0 x1 x2 x3 x5 x6 x7 x8 x9 x10 x11 x12 x13 x14 x15 x17 z0 kc ks ti ac ru wc sz dp lo ex hei al ov a1 a2 a3 a4 a5 a6 a7 a8 a9 a10 a11 a12 a13 a14 a15 a16 a17 a18 a19 a20 a21 a22 a23 a24 a25 a26 a27 := by
  unfold zl_sh at H
  unfold wL_lawOf_521 wL_lawOf_533
  exact tk_b2 (fun v => wL_lawOf_539 post mc ms J x0 x1 x2 x3 x5 x6 x7 x8 x9 x10 x11 x12 x13 x14 x15 x17 v kc ks ti ac ru wc sz dp lo ex hei al ov a1 a2 a3 a4 a5 a6 a7 a8 a9 a10 a11 a12 a13 a14 a15 a16 a17 a18 a19 a20 a21 a22 a23 a24 a25 a26 a27) H id (fun h => tk_b2 (fun v => wL_lawOf_539 post mc ms J x0 x1 x2 x3 x5 x6 x7 x8 x9 x10 x11 x12 x13 x14 x15 x17 v kc ks ti ac ru wc sz dp lo ex hei al ov a1 a2 a3 a4 a5 a6 a7 a8 a9 a10 a11 a12 a13 a14 a15 a16 a17 a18 a19 a20 a21 a22 a23 a24 a25 a26 a27) h id id)
theorem zl_505 {z0 : Int32} (H : wL_lawOf_521 post mc ms J x0 x1 x2 x3 x5 x6 x7 x8 x9 x10 x11 x12 x13 x14 x15 z0 (zl_z x6 z0) kc ks ti ac ru wc sz dp lo ex hei al ov a1 a2 a3 a4 a5 a6 a7 a8 a9 a10 a11 a12 a13 a14 a15 a16 a17 a18 a19 a20 a21 a22 a23 a24 a25 a26 a27) : wL_lawOf_505 post mc ms J x0 x1 x2 x3 x5 x6 x7 x8 x9 x10 x11 x12 x13 x14 x15 z0 kc ks ti ac ru wc sz dp lo ex hei al ov a1 a2 a3 a4 a5 a6 a7 a8 a9 a10 a11 a12 a13 a14 a15 a16 a17 a18 a19 a20 a21 a22 a23 a24 a25 a26 a27 := by
  unfold zl_z at H
  unfold wL_lawOf_505
  exact tk_b2 (fun v => wL_lawOf_521 post mc ms J x0 x1 x2 x3 x5 x6 x7 x8 x9 x10 x11 x12 x13 x14 x15 z0 v kc ks ti ac ru wc sz dp lo ex hei al ov a1 a2 a3 a4 a5 a6 a7 a8 a9 a10 a11 a12 a13 a14 a15 a16 a17 a18 a19 a20 a21 a22 a23 a24 a25 a26 a27) H id id
theorem zl_485 {z0 : Int32} (H : wL_lawOf_505 post mc ms J x0 x1 x2 x3 x5 x6 x7 x14 x9 z0 x11 x12 x13 x14 x15 (zl_past x14 x11 z0) kc ks ti ac ru wc sz dp lo ex hei al ov a1 a2 a3 a4 a5 a6 a7 a8 a9 a10 a11 a12 a13 a14 a15 a16 a17 a18 a19 a20 a21 a22 a23 a24 a25 a26 a27) : wL_lawOf_485 post mc ms J x0 x1 x2 x3 x5 x6 x7 x9 x11 x12 x13 x14 x15 z0 kc ks ti ac ru wc sz dp lo ex hei al ov a1 a2 a3 a4 a5 a6 a7 a8 a9 a10 a11 a12 a13 a14 a15 a16 a17 a18 a19 a20 a21 a22 a23 a24 a25 a26 a27 := by
  unfold zl_past at H
  unfold wL_lawOf_485
  exact tk_b2 (fun v => wL_lawOf_505 post mc ms J x0 x1 x2 x3 x5 x6 x7 x14 x9 z0 x11 x12 x13 x14 x15 v kc ks ti ac ru wc sz dp lo ex hei al ov a1 a2 a3 a4 a5 a6 a7 a8 a9 a10 a11 a12 a13 a14 a15 a16 a17 a18 a19 a20 a21 a22 a23 a24 a25 a26 a27) H id id
theorem zl_all {z0 : Int32} (H : wL_lawOf_619 post mc ms J x0 x1 x2 x3 x5 x6 x7 x14 z0 x11 (rc_v x15 x14 x9 x12) x13 x14 (zl_sh x14 (zl_z x6 (zl_past x14 x11 z0))) (zl_dn x14 (zl_past x14 x11 z0) x6) (zl_ct (rc_v x15 x14 x9 x12) x7) (zl_ed x14 x9) kc ks ti ac ru wc sz dp lo ex hei al ov a1 a2 a3 a4 a5 a6 a7 a8 a9 a10 a11 a12 a13 a14 a15 a16 a17 a18 a19 a20 a21 a22 a23 a24 a25 a26 a27) : wL_lawOf_485 post mc ms J x0 x1 x2 x3 x5 x6 x7 x9 x11 x12 x13 x14 x15 z0 kc ks ti ac ru wc sz dp lo ex hei al ov a1 a2 a3 a4 a5 a6 a7 a8 a9 a10 a11 a12 a13 a14 a15 a16 a17 a18 a19 a20 a21 a22 a23 a24 a25 a26 a27 :=
  zl_485 (zl_505 (zl_521 (zl_539 (zl_558 (zl_588 H)))))
/-- the two ways to say what a timer shows -/
theorem zl_same {e pr T b : Int32} (h : e ≠ 0 → 0 ≤ T - b) : zl_sh e (zl_z pr (zl_past e T b)) = cy_sh e pr (T - b) ∧ zl_dn e (zl_past e T b) pr = cy_dn e pr (T - b) := by
  unfold zl_sh zl_z zl_past zl_dn cy_sh cy_dn
  by_cases h0 : e = 0
  · rw [if_pos h0, if_pos h0, if_pos h0, if_pos h0]
    exact ⟨rfl, rfl⟩
  · have h1 := h h0
    rw [if_neg h0, if_neg h0, if_neg h0, if_neg h0]
    refine ⟨?_, rfl⟩
    by_cases h2 : pr ≤ T - b
    · rw [if_pos h2, if_pos h2]
    · rw [if_neg h2, if_neg h2, if_pos h1]
def zl_bg (e o t b : Int32) : Int32 := if e = 0 then b else if o = 0 then t else b
theorem zl_452 {e f v w p : Int32} {t : Nat} (hk : k < 3) (hl : l < 32) (hg : g < 8) (hi : i < 20) (hp : p = nI t) (ht : t < 8) (hT : x11 = ti + p) (hv : a3 0 = v) (he : e = if v = 0 then 0 else 1) (hf : f = if w = 0 then 0 else 1)
    (hI : zl_I k l g i x8 x9 x10 ti x12 ti ac ru sz a1 a6 a7 a8 a9 a10 a11 a12 a15 a16)
    (HJ : ∀ (x8 x9 x10 x11 x12 : Int32) (ti ac ru wc sz dp lo ex hei al ov : Int32) (a1 a2 a3 a4 a5 a6 a7 a8 a9 a10 a11 a12 a13 a14 a15 a16 a17 a18 a19 a20 a21 a22 a23 a24 a25 a26 a27 : Nat → Int32), zl_I k l g (i + 1) x8 x9 x10 x11 x12 ti ac ru sz a1 a6 a7 a8 a9 a10 a11 a12 a15 a16 → J x8 x9 x10 x11 x12 (nI (i + 1)) ti ac ru wc sz dp lo ex hei al ov a1 a2 a3 a4 a5 a6 a7 a8 a9 a10 a11 a12 a13 a14 a15 a16 a17 a18 a19 a20 a21 a22 a23 a24 a25 a26 a27) :
    wL_lawOf_452 post mc ms J x0 x1 x2 x3 (nI k) (nI l - 4) (nI g - 1) x8 x9 x10 x11 x12 (nI i) e f p w 1 kc ks ti ac ru wc sz dp lo ex hei al ov a1 a2 a3 a4 a5 a6 a7 a8 a9 a10 a11 a12 a13 a14 a15 a16 a17 a18 a19 a20 a21 a22 a23 a24 a25 a26 a27 := by
  obtain ⟨i1, i2, i3, i4, i5, i6, i7, i8, i9, i10, i11, i12, i13, i14, b, t0, i15, i16, i17, i18⟩ := hI
  unfold wL_lawOf_452
  refine lk_input (i := 1) (by decide) ?_
  subst i1 i2 i3
  refine cy_cycle hk (by rw [hp]; exact nI_pos (by omega)) (by rw [hp]; exact nI_le (b := 100) (by omega) (by decide)) i5 ((pk_un (by decide)).trans hv) pk_us he hf (fun b1 b4 b6 b7 b8 b9 b10 b25 hF => br_t rfl ?_)
  obtain ⟨f1, f2, f3, f4, f5, f6, f7, f8, f9, f10, f11, f12, f13⟩ := hF
  rw [zl_pr] at f5 f6
  rw [zl_go] at f8
  rw [i8] at f2
  rw [i10, i12] at f7
  rw [i11] at f9
  have hTn : x11 = nI (t0 + t) := by rw [hT, i16, hp, nI_add]
  have hb : ∃ bb : Nat, zl_bg e x8 x11 x10 = nI bb ∧ bb ≤ t0 + t := by
    unfold zl_bg
    by_cases h0 : e = 0
    · exact ⟨b, by rw [if_pos h0, i15], by omega⟩
    · by_cases h8 : x8 = 0
      · exact ⟨t0 + t, by rw [if_neg h0, if_pos h8, hTn], by omega⟩
      · exact ⟨b, by rw [if_neg h0, if_neg h8, i15], by omega⟩
  have h7 : e ≠ 0 → b7 k = zl_bg e x8 x11 x10 := by
    intro h0
    unfold zl_bg
    rw [f2, if_neg h0, if_neg h0]
    by_cases h8 : x8 = 0
    · rw [if_pos h8, if_pos h8, hT]
    · rw [if_neg h8, if_neg h8, i9 h8]
  obtain ⟨bb, hb1, hb2⟩ := hb
  have hs := zl_same (e := e) (pr := nI l - 4) (T := x11) (b := zl_bg e x8 x11 x10) (fun _ => by rw [hb1, hTn, pk_sub hb2]; exact nI_pos' (by omega))
  have g5 : b10 (3 + k) = zl_sh e (zl_z (nI l - 4) (zl_past e x11 (zl_bg e x8 x11 x10))) := by
    rw [hs.1, f5, hT]
    by_cases h0 : e = 0
    · unfold cy_sh
      rw [if_pos h0, if_pos h0]
    · rw [h7 h0, hT]
  have g6 : b10 k = zl_dn e (zl_past e x11 (zl_bg e x8 x11 x10)) (nI l - 4) := by
    rw [hs.2, f6, hT]
    by_cases h0 : e = 0
    · unfold cy_dn
      rw [if_pos h0, if_pos h0]
    · rw [h7 h0, hT]
  have g8 : b10 (9 + k) = zl_ct (rc_v f e x9 x12) (nI g - 1) := by
    rw [f8, f7]
    rfl
  have g9 : b10 (12 + k) = zl_ed e x9 := f9
  have main := zl_all (post := post) (mc := mc) (ms := ms) (kc := kc) (ks := ks) (J := J) (x0 := x0) (x1 := x1) (x2 := x2) (x3 := x3) (x5 := nI k) (x6 := nI l - 4) (x7 := nI g - 1) (x9 := x9) (x11 := x11) (x12 := x12) (x13 := nI i) (x14 := e) (x15 := f) (z0 := zl_bg e x8 x11 x10)
    (zl_619 (post := post) (mc := mc) (ms := ms) (kc := kc) (ks := ks) (x0 := x0) (x1 := x1) (x2 := x2) (x3 := x3) (x6 := nI l - 4) (x7 := nI g - 1) (wc := wc) (dp := dp) (lo := lo) (ex := ex) (hei := nI 0) (al := 0) (ov := 1) (a2 := a2) (a3 := upd a3 1 w) (a4 := b4) (a5 := a5) (a13 := a13) (a14 := a14) (a17 := a17) (a18 := a18) (a19 := a19) (a20 := a20) (a21 := a21) (a22 := a22) (a23 := a23) (a24 := a24) (a25 := b25) (a26 := a26) (a27 := a27) hk hl hg hi
      (show zl_I k l g (i + 1) e e (zl_bg e x8 x11 x10) x11 (rc_v f e x9 x12) (ti + p) 0 1 (nI 24) b1 b6 b7 b8 b9 b10 a11 a12 a15 a16 from
        ⟨rfl, rfl, rfl, hT.symm, i5, i6, i7, f1, h7, f3, f4, f7, fun j hj h1 h2 h3 h4 h5 => by rw [f10 j h1 h2 h3 h4 h5]; exact i13 j hj h1 h2 h3 h4 h5, fun j hj => by rw [f13 j (by omega) (by omega)]; exact i14 j hj, bb, t0 + t, hb1, hTn, hb2, by omega⟩)
      g5 g6 g8 g9 (by rw [f11, g5, g6, Int32.mul_comm]) (by rw [f12, f7, g8, g9, Int32.mul_comm, Int32.add_assoc]) HJ)
  unfold zl_bg at main
  unfold wL_lawOf_483
  exact tk_b2 (fun v => wL_lawOf_485 post mc ms J x0 x1 x2 x3 (nI k) (nI l - 4) (nI g - 1) x9 x11 x12 (nI i) e f v kc ks (ti + p) 0 1 wc (nI 24) dp lo ex (nI 0) 0 1 b1 a2 (upd a3 1 w) b4 a5 b6 b7 b8 b9 b10 a11 a12 a13 a14 a15 a16 a17 a18 a19 a20 a21 a22 a23 a24 b25 a26 a27) main id (fun h => tk_b2 (fun v => wL_lawOf_485 post mc ms J x0 x1 x2 x3 (nI k) (nI l - 4) (nI g - 1) x9 x11 x12 (nI i) e f v kc ks (ti + p) 0 1 wc (nI 24) dp lo ex (nI 0) 0 1 b1 a2 (upd a3 1 w) b4 a5 b6 b7 b8 b9 b10 a11 a12 a13 a14 a15 a16 a17 a18 a19 a20 a21 a22 a23 a24 b25 a26 a27) h id id)
theorem zl_434 {e f v p : Int32} {t : Nat} (hk : k < 3) (hl : l < 32) (hg : g < 8) (hi : i < 20) (hp : p = nI t) (ht : t < 8) (hT : x11 = ti + p) (he : e = if v = 0 then 0 else 1) (hf : f = 0 ∨ f = 1)
    (hI : zl_I k l g i x8 x9 x10 ti x12 ti ac ru sz a1 a6 a7 a8 a9 a10 a11 a12 a15 a16)
    (HJ : ∀ (x8 x9 x10 x11 x12 : Int32) (ti ac ru wc sz dp lo ex hei al ov : Int32) (a1 a2 a3 a4 a5 a6 a7 a8 a9 a10 a11 a12 a13 a14 a15 a16 a17 a18 a19 a20 a21 a22 a23 a24 a25 a26 a27 : Nat → Int32), zl_I k l g (i + 1) x8 x9 x10 x11 x12 ti ac ru sz a1 a6 a7 a8 a9 a10 a11 a12 a15 a16 → J x8 x9 x10 x11 x12 (nI (i + 1)) ti ac ru wc sz dp lo ex hei al ov a1 a2 a3 a4 a5 a6 a7 a8 a9 a10 a11 a12 a13 a14 a15 a16 a17 a18 a19 a20 a21 a22 a23 a24 a25 a26 a27) :
    wL_lawOf_434 post mc ms J x0 x1 x2 x3 (nI k) (nI l - 4) (nI g - 1) x8 x9 x10 x11 x12 (nI i) e f p v 0 kc ks ti ac ru wc sz dp lo ex hei al ov a1 a2 a3 a4 a5 a6 a7 a8 a9 a10 a11 a12 a13 a14 a15 a16 a17 a18 a19 a20 a21 a22 a23 a24 a25 a26 a27 := by
  unfold wL_lawOf_434
  refine lk_input (i := 0) (by decide) ?_
  rcases hf with rfl | rfl
  · exact br_t rfl (zl_452 hk hl hg hi hp ht hT pk_us he (by decide) hI HJ)
  · exact br_f (by decide) (zl_452 hk hl hg hi hp ht hT pk_us he (by decide) hI HJ)
theorem zl_401 {e f : Int32} (hk : k < 3) (hl : l < 32) (hg : g < 8) (hi : i < 20) (he : e = 0 ∨ e = 1) (hf : f = 0 ∨ f = 1)
    (hI : zl_I k l g i x8 x9 x10 x11 x12 ti ac ru sz a1 a6 a7 a8 a9 a10 a11 a12 a15 a16)
    (HJ : ∀ (x8 x9 x10 x11 x12 : Int32) (ti ac ru wc sz dp lo ex hei al ov : Int32) (a1 a2 a3 a4 a5 a6 a7 a8 a9 a10 a11 a12 a13 a14 a15 a16 a17 a18 a19 a20 a21 a22 a23 a24 a25 a26 a27 : Nat → Int32), zl_I k l g (i + 1) x8 x9 x10 x11 x12 ti ac ru sz a1 a6 a7 a8 a9 a10 a11 a12 a15 a16 → J x8 x9 x10 x11 x12 (nI (i + 1)) ti ac ru wc sz dp lo ex hei al ov a1 a2 a3 a4 a5 a6 a7 a8 a9 a10 a11 a12 a13 a14 a15 a16 a17 a18 a19 a20 a21 a22 a23 a24 a25 a26 a27) :
    wL_lawOf_401 post mc ms J x0 x1 x2 x3 (nI k) (nI l - 4) (nI g - 1) x8 x9 x10 x11 x12 (nI i) e f kc ks ti ac ru wc sz dp lo ex hei al ov a1 a2 a3 a4 a5 a6 a7 a8 a9 a10 a11 a12 a13 a14 a15 a16 a17 a18 a19 a20 a21 a22 a23 a24 a25 a26 a27 := by
  have i4 : ti = x11 := hI.2.2.2.1
  subst i4
  unfold wL_lawOf_401
  obtain ⟨t, ht, et⟩ := pk_andE (x2 >>> (nI i &&& 31)) (m := 7) 3 (by decide)
  refine nm_r et (nm_e ?_)
  rcases he with rfl | rfl
  · exact br_t rfl (zl_434 hk hl hg hi rfl ht rfl (by decide) hf hI HJ)
  · exact br_f (by decide) (zl_434 hk hl hg hi rfl ht rfl (by rw [if_neg (zl_or x2)]) hf hI HJ)
theorem zl_383 {e : Int32} (hk : k < 3) (hl : l < 32) (hg : g < 8) (hi : i < 20) (he : e = 0 ∨ e = 1)
    (hI : zl_I k l g i x8 x9 x10 x11 x12 ti ac ru sz a1 a6 a7 a8 a9 a10 a11 a12 a15 a16)
    (HJ : ∀ (x8 x9 x10 x11 x12 : Int32) (ti ac ru wc sz dp lo ex hei al ov : Int32) (a1 a2 a3 a4 a5 a6 a7 a8 a9 a10 a11 a12 a13 a14 a15 a16 a17 a18 a19 a20 a21 a22 a23 a24 a25 a26 a27 : Nat → Int32), zl_I k l g (i + 1) x8 x9 x10 x11 x12 ti ac ru sz a1 a6 a7 a8 a9 a10 a11 a12 a15 a16 → J x8 x9 x10 x11 x12 (nI (i + 1)) ti ac ru wc sz dp lo ex hei al ov a1 a2 a3 a4 a5 a6 a7 a8 a9 a10 a11 a12 a13 a14 a15 a16 a17 a18 a19 a20 a21 a22 a23 a24 a25 a26 a27) :
    wL_lawOf_383 post mc ms J x0 x1 x2 x3 (nI k) (nI l - 4) (nI g - 1) x8 x9 x10 x11 x12 (nI i) e kc ks ti ac ru wc sz dp lo ex hei al ov a1 a2 a3 a4 a5 a6 a7 a8 a9 a10 a11 a12 a13 a14 a15 a16 a17 a18 a19 a20 a21 a22 a23 a24 a25 a26 a27 := by
  unfold wL_lawOf_383
  exact br_c (fun _ => zl_401 hk hl hg hi he (Or.inr rfl) hI HJ) (fun _ => zl_401 hk hl hg hi he (Or.inl rfl) hI HJ)
end
theorem zl_loop {post : Int32 → St0 → Prop} {mc ms kc ks : Nat} {x0 x1 x2 x3 : Int32} {k l g : Nat} (hk : k < 3) (hl : l < 32) (hg : g < 8) (H : post 1 ()) : ∀ (r i : Nat), i + r = 20 → ∀ (x8 x9 x10 x11 x12 : Int32) (ti ac ru wc sz dp lo ex hei al ov : Int32) (a1 a2 a3 a4 a5 a6 a7 a8 a9 a10 a11 a12 a13 a14 a15 a16 a17 a18 a19 a20 a21 a22 a23 a24 a25 a26 a27 : Nat → Int32), zl_I k l g i x8 x9 x10 x11 x12 ti ac ru sz a1 a6 a7 a8 a9 a10 a11 a12 a15 a16 → wL_lawOf_362 post mc ms x0 x1 x2 x3 (nI k) (nI l - 4) (nI g - 1) kc ks (r + 1) x8 x9 x10 x11 x12 (nI i) ti ac ru wc sz dp lo ex hei al ov a1 a2 a3 a4 a5 a6 a7 a8 a9 a10 a11 a12 a13 a14 a15 a16 a17 a18 a19 a20 a21 a22 a23 a24 a25 a26 a27 := by
  intro r
  induction r with
  | zero =>
    intro i hi x8 x9 x10 x11 x12 ti ac ru wc sz dp lo ex hei al ov a1 a2 a3 a4 a5 a6 a7 a8 a9 a10 a11 a12 a13 a14 a15 a16 a17 a18 a19 a20 a21 a22 a23 a24 a25 a26 a27 hI
    have e : i = 20 := by omega
    subst e
    exact br_t (by decide) H
  | succ r ih =>
    intro i hi x8 x9 x10 x11 x12 ti ac ru wc sz dp lo ex hei al ov a1 a2 a3 a4 a5 a6 a7 a8 a9 a10 a11 a12 a13 a14 a15 a16 a17 a18 a19 a20 a21 a22 a23 a24 a25 a26 a27 hI
    exact br_f (nI_ge (b := 20) (by omega) (by decide)) (br_c (fun _ => zl_383 hk hl hg (by omega) (Or.inl rfl) hI (ih (i + 1) (by omega))) (fun _ => zl_383 hk hl hg (by omega) (Or.inr rfl) hI (ih (i + 1) (by omega))))
end
section
/-! the law from its start: what is owed -/
theorem zl_t3 (l : Nat) : (250 : Int32) + (nI l - 4) = nI (246 + l) := by
  rw [← nI_add 246 l]
  show (250 : Int32) + (nI l - 4) = (246 : Int32) + nI l
  grind
theorem zl_t8 (g : Nat) : (250 : Int32) + (nI g - 1) = nI (249 + g) := by
  rw [← nI_add 249 g]
  show (250 : Int32) + (nI g - 1) = (249 : Int32) + nI g
  grind
theorem zl_lawOf {post : Int32 → St0 → Prop} {p0 p1 p2 p3 : Int32} (H : post 1 ()) : wpL_lawOf post 100 3000 () p0 p1 p2 p3 := by
  obtain ⟨m, hm, em⟩ := pk_andE p3 (m := 255) 8 (by decide)
  obtain ⟨l, hl, el⟩ := pk_andE (p3 >>> ((8 : Int32) &&& 31)) (m := 31) 5 (by decide)
  obtain ⟨g, hg, eg⟩ := pk_andE (p3 >>> ((13 : Int32) &&& 31)) (m := 7) 3 (by decide)
  have hm' : m < 256 := hm
  have hl' : l < 32 := hl
  have hg' : g < 8 := hg
  have hk : m % 3 < 3 := by omega
  have e5 : (p3 &&& 255) - (p3 &&& 255) / 3 * 3 = nI (m % 3) := by
    rw [em]
    exact pk_rem (d := 3) (by omega) (by decide) (by decide)
  generalize m % 3 = k at hk e5
  unfold wpL_lawOf
  refine ⟨by decide, by decide, 50, 2500, by decide, by decide, ?_⟩
  unfold wpX_init
  refine ⟨by decide, by decide, by decide, by decide, by decide, by decide, by decide, by decide, by decide, by decide, by decide, by decide, by decide, by decide, by decide, by decide, by decide, by decide, by decide, by decide, by decide, by decide, by decide, by decide, by decide, by decide, by decide, by decide, by decide, by decide, by decide, by decide, by decide, by decide, by decide, by decide, by decide, by decide, by decide, by decide, by decide, by decide, by decide, by decide, by decide, by decide, by decide, by decide, by decide, by decide, by decide, by decide, by decide, by decide, ?_⟩
  refine ⟨by decide, nm_r e5 (nm_r (e' := nI l - 4) (by rw [el]) (nm_r (e' := nI g - 1) (by rw [eg]) ?_))⟩
  refine fd_feed (n := 0) hk hl' hg' (by decide) rfl rfl (fun j hj => absurd hj (by omega)) rfl (fun w1 t1 n1 s1 c1 d1 => ?_)
  refine fd_feed (n := 1) hk hl' hg' (by decide) rfl c1 d1 (nI_add 60 k) (fun w2 t2 n2 s2 c2 d2 => ?_)
  refine fd_feed (n := 2) hk hl' hg' (by decide) rfl c2 d2 rfl (fun w3 t3 n3 s3 c3 d3 => ?_)
  refine fd_feed (n := 3) hk hl' hg' (by decide) rfl c3 d3 (zl_t3 l) (fun w4 t4 n4 s4 c4 d4 => ?_)
  refine fd_feed (n := 4) hk hl' hg' (by decide) rfl c4 d4 rfl (fun w5 t5 n5 s5 c5 d5 => ?_)
  refine fd_feed (n := 5) hk hl' hg' (by decide) rfl c5 d5 (nI_add 63 k) (fun w6 t6 n6 s6 c6 d6 => ?_)
  refine fd_feed (n := 6) hk hl' hg' (by decide) rfl c6 d6 rfl (fun w7 t7 n7 s7 c7 d7 => ?_)
  refine fd_feed (n := 7) hk hl' hg' (by decide) rfl c7 d7 rfl (fun w8 t8 n8 s8 c8 d8 => ?_)
  refine fd_feed (n := 8) hk hl' hg' (by decide) rfl c8 d8 (zl_t8 g) (fun w9 t9 n9 s9 c9 d9 => ?_)
  refine fd_feed (n := 9) hk hl' hg' (by decide) rfl c9 d9 rfl (fun w10 t10 n10 s10 c10 d10 => ?_)
  refine fd_feed (n := 10) hk hl' hg' (by decide) rfl c10 d10 (nI_add 66 k) (fun w11 t11 n11 s11 c11 d11 => ?_)
  refine fd_feed (n := 11) hk hl' hg' (by decide) rfl c11 d11 rfl (fun w12 t12 n12 s12 c12 d12 => ?_)
  refine fd_feed (n := 12) hk hl' hg' (by decide) rfl c12 d12 rfl (fun w13 t13 n13 s13 c13 d13 => ?_)
  refine fd_feed (n := 13) hk hl' hg' (by decide) rfl c13 d13 rfl (fun w14 t14 n14 s14 c14 d14 => ?_)
  refine fd_feed (n := 14) hk hl' hg' (by decide) rfl c14 d14 rfl (fun w15 t15 n15 s15 c15 d15 => ?_)
  refine fd_feed (n := 15) hk hl' hg' (by decide) rfl c15 d15 (nI_add 146 k) (fun w16 t16 n16 s16 c16 d16 => ?_)
  refine fd_feed (n := 16) hk hl' hg' (by decide) rfl c16 d16 rfl (fun w17 t17 n17 s17 c17 d17 => ?_)
  refine fd_feed (n := 17) hk hl' hg' (by decide) rfl c17 d17 (nI_add 143 k) (fun w18 t18 n18 s18 c18 d18 => ?_)
  refine fd_feed (n := 18) hk hl' hg' (by decide) rfl c18 d18 rfl (fun w19 t19 n19 s19 c19 d19 => ?_)
  refine fd_feed (n := 19) hk hl' hg' (by decide) rfl c19 d19 rfl (fun w20 t20 n20 s20 c20 d20 => ?_)
  refine fd_feed (n := 20) hk hl' hg' (by decide) rfl c20 d20 rfl (fun w21 t21 n21 s21 c21 d21 => ?_)
  refine fd_feed (n := 21) hk hl' hg' (by decide) rfl c21 d21 (nI_add 149 k) (fun w22 t22 n22 s22 c22 d22 => ?_)
  refine fd_feed (n := 22) hk hl' hg' (by decide) rfl c22 d22 rfl (fun w23 t23 n23 s23 c23 d23 => ?_)
  refine fd_feed (n := 23) hk hl' hg' (by decide) rfl c23 d23 rfl (fun w24 t24 n24 s24 c24 d24 => ?_)
  refine fd_feed (n := 24) hk hl' hg' (by decide) rfl c24 d24 (nI_add 152 k) (fun w25 t25 n25 s25 c25 d25 => ?_)
  refine fd_feed (n := 25) hk hl' hg' (by decide) rfl c25 d25 rfl (fun w26 t26 n26 s26 c26 d26 => ?_)
  refine fd_feed (n := 26) hk hl' hg' (by decide) rfl c26 d26 (nI_add 155 k) (fun w27 t27 n27 s27 c27 d27 => ?_)
  refine fd_complete hk hl' hg' c27 d27 (fun b13 => br_t rfl ?_)
  refine ac_activate hk hl' hg' c27 d27 (fun b13 b14 b15 b16 b17 b18 b19 hc => br_t rfl ⟨21, ?_⟩)
  exact zl_loop hk hl' hg' H 20 0 rfl _ _ _ _ _ _ _ _ _ _ _ _ _ _ _ _ _ _ _ _ _ _ _ _ _ _ _ _ _ _ _ _ _ _ _ _ _ _ _ _ _ _ _ ⟨rfl, rfl, rfl, rfl, hc, c27, d27, rfl, fun h => absurd rfl h, rfl, rfl, rfl, fun j _ _ _ _ _ _ => rfl, fun j _ => rfl, 0, 0, rfl, rfl, Nat.le_refl 0, by decide⟩
theorem i_vc (xs : Nat → Int32) (L : Nat) (hL : L ≤ 4) : wpL_law (fun r => r = 1) L xs := by
  have hcell : ∀ (post : Int32 → Prop) (j : Nat), j < 4 → (∀ x, post x) → wpL_cellAt post L xs () (nI j) := by
    intro post j hj H
    unfold wpL_cellAt
    refine br_c (fun _ => H 0) (fun h => ⟨?_, H _⟩)
    refine vp_in_nI ?_ (by omega)
    rcases Nat.lt_or_ge j L with z | z
    · exact z
    · exact absurd (nI_le z (by omega)) h
  unfold wpL_law
  refine hcell _ 0 (by decide) (fun x => ?_)
  refine hcell _ 1 (by decide) (fun y => ?_)
  refine hcell _ 2 (by decide) (fun z => ?_)
  refine hcell _ 3 (by decide) (fun n => ?_)
  exact ⟨100, 3000, by decide, by decide, zl_lawOf rfl⟩
end
