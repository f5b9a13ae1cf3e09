section
/-- which of the six edges stands at a place of the table between (6: none) -/
def nc_e (k : Nat) : Nat := ([6, 0, 1, 3, 6, 6, 0, 6, 2, 4, 6, 6, 1, 2, 6, 5, 6, 6, 3, 4, 5, 6, 6, 6] : List Nat).getD k 6
/-- the weight at a place, the first i edges joined -/
def nc_ai (m : Nat → Nat) (i k : Nat) : Nat := if nc_e k < i then m (nc_e k) else 0
def nc_a (m : Nat → Nat) (k : Nat) : Nat := nc_ai m 6 k
def nc_Ai (m : Nat → Nat) (i : Nat) : Nat → Int32 := fun k => nI (nc_ai m i k)
def nc_A (m : Nat → Nat) : Nat → Int32 := fun k => nI (nc_a m k)
def nc_lo (i : Nat) : Nat := if 1 ≤ i then (if 3 ≤ i then i - 3 else i - 1) else 0
def nc_hi (i : Nat) : Nat := if 1 ≤ i then (if 3 ≤ i then 3 else 2) else 1
/-- all trees, trees with the last edge, forests of two edges that part 0 from 1, of them those that hold 2 with 0 -/
def nc_TT (m : Nat → Nat) : Nat := m 0*m 1*m 3 + m 0*m 2*m 3 + m 1*m 2*m 3 + m 0*m 1*m 4 + m 0*m 2*m 4 + m 1*m 2*m 4 + m 1*m 3*m 4 + m 2*m 3*m 4 + m 0*m 1*m 5 + m 0*m 2*m 5 + m 1*m 2*m 5 + m 0*m 3*m 5 + m 2*m 3*m 5 + m 0*m 4*m 5 + m 1*m 4*m 5 + m 3*m 4*m 5
def nc_TW (m : Nat → Nat) : Nat := m 0*m 1*m 5 + m 0*m 2*m 5 + m 1*m 2*m 5 + m 0*m 3*m 5 + m 2*m 3*m 5 + m 0*m 4*m 5 + m 1*m 4*m 5 + m 3*m 4*m 5
def nc_B (m : Nat → Nat) : Nat := m 1*m 3 + m 2*m 3 + m 1*m 4 + m 2*m 4 + m 1*m 5 + m 2*m 5 + m 3*m 5 + m 4*m 5
def nc_N (m : Nat → Nat) : Nat := m 1*m 3 + m 1*m 4 + m 1*m 5 + m 3*m 5
/-- the weights with the last edge taken out -/
def nc_z (m : Nat → Nat) : Nat → Nat := fun i => if i = 5 then 0 else m i

theorem nc_ix (c i j : Nat) : nI c * nI i + nI j = nI (c * i + j) := by
  rw [pk_mul, nI_add]
theorem nc_e_big {k : Nat} (h : 24 ≤ k) : nc_e k = 6 := by
  unfold nc_e
  rw [List.getD_eq_getElem?_getD, List.getElem?_eq_none (by exact h)]
  rfl
theorem nc_e_tab : ∀ k, k < 24 → nc_e k < 6 → k / 6 < 4 ∧ k % 6 < 4 := by decide +kernel
theorem nc_e_on {k : Nat} (h : nc_e k < 6) : k / 6 < 4 ∧ k % 6 < 4 := by
  rcases Nat.lt_or_ge k 24 with z | z
  · exact nc_e_tab k z h
  · rw [nc_e_big z] at h
    omega
theorem nc_e_inv_tab : ∀ i, i < 6 → ∀ k, k < 24 → nc_e k = i → k = 6 * nc_lo i + nc_hi i ∨ k = 6 * nc_hi i + nc_lo i := by decide +kernel
theorem nc_e_inv {i k : Nat} (hi : i < 6) (h : nc_e k = i) : k = 6 * nc_lo i + nc_hi i ∨ k = 6 * nc_hi i + nc_lo i := by
  rcases Nat.lt_or_ge k 24 with z | z
  · exact nc_e_inv_tab i hi k z h
  · rw [nc_e_big z] at h
    omega
theorem nc_e_at : ∀ i, i < 6 → nc_e (6 * nc_lo i + nc_hi i) = i ∧ nc_e (6 * nc_hi i + nc_lo i) = i ∧ nc_lo i < 4 ∧ nc_hi i < 4 ∧ nc_lo i ≠ nc_hi i := by decide +kernel
theorem nc_Ai_0 (m : Nat → Nat) : nc_Ai m 0 = fun _ => 0 := by
  funext k
  unfold nc_Ai nc_ai
  rw [if_neg (by omega)]
  rfl
theorem nc_Ai_s (m : Nat → Nat) {i : Nat} (hi : i < 6) : upd (upd (nc_Ai m i) (6 * nc_lo i + nc_hi i) (nI (m i))) (6 * nc_hi i + nc_lo i) (nI (m i)) = nc_Ai m (i + 1) := by
  obtain ⟨h1, h2, _⟩ := nc_e_at i hi
  funext k
  by_cases e2 : k = 6 * nc_hi i + nc_lo i
  · rw [e2, pk_us]
    unfold nc_Ai nc_ai
    rw [h2, if_pos (by omega)]
  · rw [pk_un e2]
    by_cases e1 : k = 6 * nc_lo i + nc_hi i
    · rw [e1, pk_us]
      unfold nc_Ai nc_ai
      rw [h1, if_pos (by omega)]
    · rw [pk_un e1]
      have hk : nc_e k ≠ i := fun z => by
        rcases nc_e_inv hi z with z | z
        · exact e1 z
        · exact e2 z
      unfold nc_Ai nc_ai
      by_cases hl : nc_e k < i
      · rw [if_pos hl, if_pos (by omega)]
      · rw [if_neg hl, if_neg (by omega)]
theorem nc_Ai_at (m : Nat → Nat) {i : Nat} (hi : i < 6) : nc_Ai m i (6 * nc_lo i + nc_hi i) = 0 := by
  obtain ⟨h1, _⟩ := nc_e_at i hi
  unfold nc_Ai nc_ai
  rw [h1, if_neg (by omega)]
  rfl
theorem nc_a_le {m : Nat → Nat} (hm : ∀ i, m i ≤ 9) (k : Nat) : nc_a m k ≤ 9 := by
  unfold nc_a nc_ai
  split
  · exact hm _
  · omega
/-- the last edge set to 0, and set back -/
theorem nc_z_le {m : Nat → Nat} (hm : ∀ i, m i ≤ 9) : ∀ i, nc_z m i ≤ 9 := by
  intro i
  unfold nc_z
  split
  · omega
  · exact hm i
theorem nc_A_z (m : Nat → Nat) : upd (upd (nc_A m) 15 0) 20 0 = nc_A (nc_z m) := by
  funext k
  by_cases e2 : k = 20
  · rw [e2, pk_us]
    rfl
  · rw [pk_un e2]
    by_cases e1 : k = 15
    · rw [e1, pk_us]
      rfl
    · rw [pk_un e1]
      have hk : nc_e k ≠ 5 := fun z => by
        rcases nc_e_inv (i := 5) (by omega) z with z | z
        · exact e1 z
        · exact e2 z
      unfold nc_A nc_a nc_ai nc_z
      by_cases hl : nc_e k < 6
      · rw [if_pos hl, if_pos hl, if_neg hk]
      · rw [if_neg hl, if_neg hl]
theorem nc_A_b (m : Nat → Nat) : upd (upd (nc_A (nc_z m)) 15 (nI (m 5))) 20 (nI (m 5)) = nc_A m := by
  funext k
  by_cases e2 : k = 20
  · rw [e2, pk_us]
    rfl
  · rw [pk_un e2]
    by_cases e1 : k = 15
    · rw [e1, pk_us]
      rfl
    · rw [pk_un e1]
      have hk : nc_e k ≠ 5 := fun z => by
        rcases nc_e_inv (i := 5) (by omega) z with z | z
        · exact e1 z
        · exact e2 z
      unfold nc_A nc_a nc_ai nc_z
      by_cases hl : nc_e k < 6
      · rw [if_pos hl, if_pos hl, if_neg hk]
      · rw [if_neg hl, if_neg hl]
/-- degrees -/
def nc_sd (m : Nat → Nat) (p : Nat) : Nat → Nat
  | 0 => 0
  | q + 1 => nc_sd m p q + nc_a m (6 * p + q)
theorem nc_d1 (m : Nat → Nat) : nc_sd m 1 4 = m 0 + m 2 + m 4 := by
  show 0 + m 0 + 0 + m 2 + m 4 = _
  omega
theorem nc_d2 (m : Nat → Nat) : nc_sd m 2 4 = m 1 + m 2 + m 5 := by
  show 0 + m 1 + m 2 + 0 + m 5 = _
  omega
theorem nc_d3 (m : Nat → Nat) : nc_sd m 3 4 = m 3 + m 4 + m 5 := by
  show 0 + m 3 + m 4 + m 5 + 0 = _
  omega
/-- bounds -/
theorem nc_p3 {a b c : Nat} (ha : a ≤ 9) (hb : b ≤ 9) (hc : c ≤ 9) : a * b * c ≤ 729 := Nat.mul_le_mul (Nat.mul_le_mul ha hb) hc
theorem nc_p2 {a b : Nat} (ha : a ≤ 9) (hb : b ≤ 9) : a * b ≤ 81 := Nat.mul_le_mul ha hb
theorem nc_TT_le {m : Nat → Nat} (hm : ∀ i, m i ≤ 9) : nc_TT m ≤ 11664 := by
  unfold nc_TT
  have h1 := nc_p3 (hm 0) (hm 1) (hm 3)
  have h2 := nc_p3 (hm 0) (hm 2) (hm 3)
  have h3 := nc_p3 (hm 1) (hm 2) (hm 3)
  have h4 := nc_p3 (hm 0) (hm 1) (hm 4)
  have h5 := nc_p3 (hm 0) (hm 2) (hm 4)
  have h6 := nc_p3 (hm 1) (hm 2) (hm 4)
  have h7 := nc_p3 (hm 1) (hm 3) (hm 4)
  have h8 := nc_p3 (hm 2) (hm 3) (hm 4)
  have h9 := nc_p3 (hm 0) (hm 1) (hm 5)
  have h10 := nc_p3 (hm 0) (hm 2) (hm 5)
  have h11 := nc_p3 (hm 1) (hm 2) (hm 5)
  have h12 := nc_p3 (hm 0) (hm 3) (hm 5)
  have h13 := nc_p3 (hm 2) (hm 3) (hm 5)
  have h14 := nc_p3 (hm 0) (hm 4) (hm 5)
  have h15 := nc_p3 (hm 1) (hm 4) (hm 5)
  have h16 := nc_p3 (hm 3) (hm 4) (hm 5)
  omega
theorem nc_B_le {m : Nat → Nat} (hm : ∀ i, m i ≤ 9) : nc_B m ≤ 648 := by
  unfold nc_B
  have h1 := nc_p2 (hm 1) (hm 3)
  have h2 := nc_p2 (hm 2) (hm 3)
  have h3 := nc_p2 (hm 1) (hm 4)
  have h4 := nc_p2 (hm 2) (hm 4)
  have h5 := nc_p2 (hm 1) (hm 5)
  have h6 := nc_p2 (hm 2) (hm 5)
  have h7 := nc_p2 (hm 3) (hm 5)
  have h8 := nc_p2 (hm 4) (hm 5)
  omega
theorem nc_N_le {m : Nat → Nat} : nc_N m ≤ nc_B m := by
  unfold nc_N nc_B
  omega
/-- the negated small int, widened -/
theorem nc_neg_tab : ∀ j, j < 10 → (-(nI j)).toInt64 = -(lN j) := by decide +kernel
theorem nc_l0 : (0 : Int64) = lN 0 := rfl
theorem nc_l1 : (1 : Int64) = lN 1 := rfl
theorem nc_div1 (x : Int64) : x / 1 = x := Int64.div_one
theorem nc_ldiv {d x : Nat} (hd : 0 < d) (hd2 : d < 2 ^ 31) (hx : x < 2 ^ 31) : (lN d * lN x) / lN d = lN x := by
  rw [lN_mul, pk_lDiv _ hd (by omega), Nat.mul_div_cancel_left _ hd]
  calc d * x ≤ 2 ^ 31 * 2 ^ 31 := Nat.mul_le_mul (by omega) (by omega)
    _ < 2 ^ 63 := by decide
theorem nc_lne {d : Nat} (hd : 0 < d) (hd2 : d < 2 ^ 31) : ¬ lN d = 0 := fun z => by
  have := (lN_eq (a := d) (b := 0) hd2 (by omega)).mp z
  omega
end
section
/-- the four labels of a state of part, as one number of base 4 -/
def nc_get (P p : Nat) : Nat := P / 4 ^ p % 4
def nc_put (P q v : Nat) : Nat := P - nc_get P q * 4 ^ q + v * 4 ^ q
def nc_bs (b0 b1 b2 b3 b4 b5 : Bool) : Nat → Bool := fun i => if i = 0 then b0 else if i = 1 then b1 else if i = 2 then b2 else if i = 3 then b3 else if i = 4 then b4 else b5
def nc_bm (m : Nat → Nat) : Nat → Bool := nc_bs (decide (0 < m 0)) (decide (0 < m 1)) (decide (0 < m 2)) (decide (0 < m 3)) (decide (0 < m 4)) (decide (0 < m 5))
def nc_on (b : Nat → Bool) (k : Nat) : Bool := if nc_e k < 6 then b (nc_e k) else false
def nc_st (b : Nat → Bool) (k P : Nat) : Nat := if nc_on b k = true ∧ nc_get P (k / 6) < nc_get P (k % 6) then nc_put P (k % 6) (nc_get P (k / 6)) else P
def nc_run (b : Nat → Bool) : Nat → Nat
  | 0 => 228
  | t + 1 => nc_st b (t % 36) (nc_run b t)
def nc_cnt (P : Nat) : Nat → Nat
  | 0 => 0
  | p + 1 => nc_cnt P p + (if nc_get P p = p then 1 else 0)
def nc_conn (b0 b1 b2 b3 b4 b5 : Bool) : Bool := (b0 && b1 && b3) || (b0 && b2 && b3) || (b1 && b2 && b3) || (b0 && b1 && b4) || (b0 && b2 && b4) || (b1 && b2 && b4) || (b1 && b3 && b4) || (b2 && b3 && b4) || (b0 && b1 && b5) || (b0 && b2 && b5) || (b1 && b2 && b5) || (b0 && b3 && b5) || (b2 && b3 && b5) || (b0 && b4 && b5) || (b1 && b4 && b5) || (b3 && b4 && b5)
theorem nc_put_tab : ∀ P, P < 256 → ∀ q, q < 4 → ∀ v, v < 4 → nc_put P q v < 256 ∧ ∀ p, p < 4 → nc_get (nc_put P q v) p = if p = q then v else nc_get P p := by decide +kernel
theorem nc_run_tab : ∀ b0 b1 b2 b3 b4 b5 : Bool, (nc_cnt (nc_run (nc_bs b0 b1 b2 b3 b4 b5) 144) 4 = 1 ↔ nc_conn b0 b1 b2 b3 b4 b5 = true) ∧ (nc_conn b0 b1 b2 b3 b4 b5 = true → ∀ p, p < 4 → nc_get (nc_run (nc_bs b0 b1 b2 b3 b4 b5) 144) p = 0) := by decide +kernel
theorem nc_mul3 {a b c : Nat} : 0 < a * b * c ↔ (0 < a ∧ 0 < b) ∧ 0 < c := by
  constructor
  · intro h
    exact ⟨⟨Nat.pos_of_mul_pos_right (Nat.pos_of_mul_pos_right h), Nat.pos_of_mul_pos_left (Nat.pos_of_mul_pos_right h)⟩, Nat.pos_of_mul_pos_left h⟩
  · intro h
    exact Nat.mul_pos (Nat.mul_pos h.1.1 h.1.2) h.2
theorem nc_TT_pos (m : Nat → Nat) : 0 < nc_TT m ↔ nc_conn (decide (0 < m 0)) (decide (0 < m 1)) (decide (0 < m 2)) (decide (0 < m 3)) (decide (0 < m 4)) (decide (0 < m 5)) = true := by
  unfold nc_TT nc_conn
  simp only [Nat.add_pos_iff_pos_or_pos, nc_mul3, Bool.or_eq_true, Bool.and_eq_true, decide_eq_true_eq]
theorem nc_cnt_1 (m : Nat → Nat) : nc_cnt (nc_run (nc_bm m) 144) 4 = 1 ↔ 0 < nc_TT m := by
  rw [nc_TT_pos]
  exact (nc_run_tab _ _ _ _ _ _).1
theorem nc_all0 {m : Nat → Nat} (h : 0 < nc_TT m) : ∀ p, p < 4 → nc_get (nc_run (nc_bm m) 144) p = 0 :=
  (nc_run_tab _ _ _ _ _ _).2 ((nc_TT_pos m).mp h)
theorem nc_get_lt (P p : Nat) : nc_get P p < 4 := Nat.mod_lt _ (by decide)
theorem nc_bm_at (m : Nat → Nat) : ∀ i, i < 6 → nc_bm m i = decide (0 < m i)
  | 0, _ => rfl
  | 1, _ => rfl
  | 2, _ => rfl
  | 3, _ => rfl
  | 4, _ => rfl
  | 5, _ => rfl
  | _ + 6, h => absurd h (by omega)
theorem nc_on_iff (m : Nat → Nat) (k : Nat) : nc_on (nc_bm m) k = true ↔ 0 < nc_a m k := by
  unfold nc_on nc_a nc_ai
  by_cases h : nc_e k < 6
  · rw [if_pos h, if_pos h, nc_bm_at m _ h, decide_eq_true_eq]
  · rw [if_neg h, if_neg h]
    simp
theorem nc_on_in {b : Nat → Bool} {k : Nat} (h : nc_on b k = true) : k / 6 < 4 ∧ k % 6 < 4 := by
  unfold nc_on at h
  by_cases z : nc_e k < 6
  · exact nc_e_on z
  · rw [if_neg z] at h
    exact absurd h (by decide)
theorem nc_st_lt {b : Nat → Bool} {k P : Nat} (h : P < 256) : nc_st b k P < 256 := by
  unfold nc_st
  split
  · rename_i z
    obtain ⟨h1, h2⟩ := nc_on_in z.1
    exact (nc_put_tab P h (k % 6) h2 _ (nc_get_lt P (k / 6))).1
  · exact h
theorem nc_run_lt (b : Nat → Bool) (t : Nat) : nc_run b t < 256 := by
  induction t with
  | zero => exact (by decide : 228 < 256)
  | succ t ih => exact nc_st_lt ih
theorem nc_run_s (b : Nat → Bool) (r : Nat) {k : Nat} (hk : k < 36) : nc_run b (36 * r + (k + 1)) = nc_st b k (nc_run b (36 * r + k)) := by
  show nc_st b ((36 * r + k) % 36) _ = _
  rw [show (36 * r + k) % 36 = k by omega]
  rfl
/-- the inner loop of findParts: one round -/
theorem nc_fp35 {post : St2 → Prop} {J : Int32 → (Nat → Int32) → (Nat → Int32) → (Nat → Int64) → (Nat → Int32) → (Nat → Int64) → Prop} {f1 f2 f3 : Int32} {f4 f5 f6 : Int64} {a3 a5 : Nat → Int64} {a4 : Nat → Int32} {m : Nat → Nat} (hm : ∀ i, m i ≤ 9) (r : Nat) (s0 : Nat → Int32)
    (h0 : ∀ p, p < 4 → s0 p = nI (nc_get (nc_run (nc_bm m) (36 * r)) p))
    (H : ∀ s' : Nat → Int32, (∀ p, p < 4 → s' p = nI (nc_get (nc_run (nc_bm m) (36 * (r + 1))) p)) → J (nI (r + 1)) (nc_A m) s' a3 a4 a5) :
    ∃ fu, wX_findParts_35 post J (nI r) f1 f2 f3 f4 f5 f6 fu 0 (nc_A m) s0 a3 a4 a5 := by
  refine pk_loop (fun n k s => wX_findParts_35 post J (nI r) f1 f2 f3 f4 f5 f6 n (nI k) (nc_A m) s a3 a4 a5) (fun k s => ∀ p, p < 4 → s p = nI (nc_get (nc_run (nc_bm m) (36 * r + k)) p)) 36 0 s0 (by omega) h0 ?_ ?_
  · intro n s h
    exact pk_le 36 36 (fun _ => nm_r (nI_1 r) (H s h)) (fun z => absurd z (by omega))
  · intro n k s hk h hw
    have ha := nc_a_le hm k
    have hP := nc_run_lt (nc_bm m) (36 * r + k)
    have hrs := nc_run_s (nc_bm m) r hk
    refine pk_le 36 k (fun z => absurd z (by omega)) (fun _ => ⟨by decide, nm_r (e' := nI (k / 6)) (pk_div (d := 6) (by omega) (by omega) (by omega)) ⟨by decide, nm_r (e' := nI (k % 6)) (pk_rem (d := 6) (by omega) (by omega) (by omega)) ⟨pk_in k 36 hk, ?_⟩⟩⟩)
    rw [nI_clamp (show k < 2 ^ 31 by omega), nI_clamp (show k / 6 < 2 ^ 31 by omega), nI_clamp (show k % 6 < 2 ^ 31 by omega)]
    refine pk_le (nc_a m k) 0 (fun z => nm_r (nI_1 k) (hw s ?_)) (fun z => ?_)
    · intro p hp
      rw [hrs]
      unfold nc_st
      rw [if_neg (fun t => by have := (nc_on_iff m k).mp t.1; omega)]
      exact h p hp
    · have hon := (nc_on_iff m k).mpr z
      obtain ⟨h1, h2⟩ := nc_on_in hon
      have g1 := nc_get_lt (nc_run (nc_bm m) (36 * r + k)) (k / 6)
      have g2 := nc_get_lt (nc_run (nc_bm m) (36 * r + k)) (k % 6)
      refine ⟨pk_in (k / 6) 6 (by omega), pk_in (k % 6) 6 (by omega), ?_⟩
      refine pk_le (nc_get (nc_run (nc_bm m) (36 * r + k)) (k % 6)) (nc_get (nc_run (nc_bm m) (36 * r + k)) (k / 6)) (fun y => nm_r (nI_1 k) (hw s ?_)) (fun y => ⟨pk_in (k / 6) 6 (by omega), pk_in (k % 6) 6 (by omega), nm_e (nm_r (nI_1 k) (hw _ ?_))⟩) (h _ h2) (h _ h1)
      · intro p hp
        rw [hrs]
        unfold nc_st
        rw [if_neg (fun t => by have := t.2; omega)]
        exact h p hp
      · intro p hp
        rw [hrs]
        unfold nc_st
        rw [if_pos ⟨hon, y⟩, (nc_put_tab _ hP _ h2 _ g1).2 p hp]
        by_cases e : p = k % 6
        · rw [e, pk_us, if_pos rfl]
          exact h _ h1
        · rw [pk_un e, if_neg e]
          exact h p hp
theorem nc_fp25 {post : St2 → Prop} {f2 f3 : Int32} {f4 f5 f6 : Int64} {a3 a5 : Nat → Int64} {a4 : Nat → Int32} {m : Nat → Nat} (hm : ∀ i, m i ≤ 9) (s0 : Nat → Int32)
    (h0 : ∀ p, p < 4 → s0 p = nI p)
    (H : ∀ s' : Nat → Int32, (∀ p, p < 4 → s' p = nI (nc_get (nc_run (nc_bm m) 144) p)) → post (4, f2, f3, f4, f5, f6, nc_A m, s', a3, a4, a5)) :
    ∃ fu, wX_findParts_25 post 4 f2 f3 f4 f5 f6 fu 0 (nc_A m) s0 a3 a4 a5 := by
  refine pk_loop (fun n r s => wX_findParts_25 post 4 f2 f3 f4 f5 f6 n (nI r) (nc_A m) s a3 a4 a5) (fun r s => ∀ p, p < 4 → s p = nI (nc_get (nc_run (nc_bm m) (36 * r)) p)) 4 0 s0 (by omega) ?_ ?_ ?_
  · intro p hp
    rw [h0 p hp]
    exact congrArg nI ((by decide : ∀ p, p < 4 → p = nc_get 228 p) p hp)
  · intro n s h
    exact pk_le 4 4 (fun _ => H s h) (fun z => absurd z (by omega))
  · intro n r s hr h hw
    exact pk_le 4 r (fun z => absurd z (by omega)) (fun _ => nc_fp35 hm r s h hw)
theorem nc_fp {post : St2 → Prop} {f2 f3 : Int32} {f4 f5 f6 : Int64} {a3 a5 : Nat → Int64} {a2 a4 : Nat → Int32} {m : Nat → Nat} (hm : ∀ i, m i ≤ 9)
    (H : ∀ s' : Nat → Int32, (∀ p, p < 4 → s' p = nI (nc_get (nc_run (nc_bm m) 144) p)) → post (4, f2, f3, f4, f5, f6, nc_A m, s', a3, a4, a5)) :
    wpX_findParts post (4, f2, f3, f4, f5, f6, nc_A m, a2, a3, a4, a5) := by
  refine pk_loop (fun n i s => wX_findParts_2 post 4 f2 f3 f4 f5 f6 n (nI i) (nc_A m) s a3 a4 a5) (fun i s => ∀ p, p < i → s p = nI p) 4 0 a2 (by omega) (fun j hj => absurd hj (by omega)) ?_ ?_
  · intro n s h
    exact pk_le 4 4 (fun _ => nc_fp25 hm s h H) (fun z => absurd z (by omega))
  · intro n i s hi h hw
    refine pk_le 4 i (fun z => absurd z (by omega)) (fun _ => ⟨pk_in i 6 (by omega), nm_e (nm_r (nI_1 i) (hw _ ?_))⟩)
    intro p hp
    rw [nI_clamp (show i < 2 ^ 31 by omega)]
    by_cases e : p = i
    · rw [e, pk_us]
    · rw [pk_un e]
      exact h p (by omega)
/-- countParts, parts -/
theorem nc_cp {post : Int32 → St2 → Prop} {f2 f3 : Int32} {f4 f5 f6 : Int64} {a3 a5 : Nat → Int64} {a2 a4 : Nat → Int32} {m : Nat → Nat} (hm : ∀ i, m i ≤ 9)
    (H : ∀ s' : Nat → Int32, post (nI (nc_cnt (nc_run (nc_bm m) 144) 4)) (4, f2, f3, f4, f5, f6, nc_A m, s', a3, a4, a5)) :
    wpX_countParts post (4, f2, f3, f4, f5, f6, nc_A m, a2, a3, a4, a5) := by
  refine nc_fp hm (fun s hs => ?_)
  refine pk_loop (σ := Unit) (fun n i _ => wX_countParts_8 post 4 f2 f3 f4 f5 f6 (nc_A m) s a3 a4 a5 n (nI (nc_cnt (nc_run (nc_bm m) 144) i)) (nI i)) (fun _ _ => True) 4 0 () (by omega) trivial ?_ ?_
  · intro n _ _
    exact pk_le 4 4 (fun _ => H s) (fun z => absurd z (by omega))
  · intro n i _ hi _ hw
    have hw' := hw () trivial
    have g := nc_get_lt (nc_run (nc_bm m) 144) i
    refine pk_le 4 i (fun z => absurd z (by omega)) (fun _ => ⟨pk_in i 6 (by omega), ?_⟩)
    rw [nI_clamp (show i < 2 ^ 31 by omega)]
    have hc : nc_cnt (nc_run (nc_bm m) 144) (i + 1) = nc_cnt (nc_run (nc_bm m) 144) i + (if nc_get (nc_run (nc_bm m) 144) i = i then 1 else 0) := rfl
    refine pk_eq (nc_get (nc_run (nc_bm m) 144) i) i (fun z => ?_) (fun z => ?_) (hs i hi)
    · rw [if_pos z] at hc
      rw [hc] at hw'
      exact nm_r (nI_1 _) (nm_r (nI_1 i) hw')
    · rw [if_neg z] at hc
      rw [hc] at hw'
      exact nm_r (nI_add _ 0) (nm_r (nI_1 i) hw')
theorem nc_parts {post : Int32 → St2 → Prop} {f2 f3 : Int32} {f4 f5 f6 : Int64} {a3 a5 : Nat → Int64} {a2 a4 : Nat → Int32} {m : Nat → Nat} (hm : ∀ i, m i ≤ 9)
    (H : ∀ s' : Nat → Int32, post (nI (nc_cnt (nc_run (nc_bm m) 144) 4)) (4, f2, f3, f4, f5, f6, nc_A m, s', a3, a4, a5)) :
    wpX_parts post (4, f2, f3, f4, f5, f6, nc_A m, a2, a3, a4, a5) := nc_cp hm H
end
section
theorem nc_deg {post : Int64 → Prop} {f2 f3 : Int32} {f4 f5 f6 : Int64} {a2 a4 : Nat → Int32} {a3 a5 : Nat → Int64} {m : Nat → Nat} (hm : ∀ i, m i ≤ 9) {p : Nat} (hp : p < 4) (H : post (lN (nc_sd m p 4))) :
    wpX_degree post (4, f2, f3, f4, f5, f6, nc_A m, a2, a3, a4, a5) (nI p) := by
  refine pk_loop (σ := Unit) (fun n q _ => wX_degree_5 post (nI p) 4 f2 f3 f4 f5 f6 (nc_A m) a2 a3 a4 a5 n (lN (nc_sd m p q)) (nI q)) (fun _ _ => True) 4 0 () (by omega) trivial ?_ ?_
  · intro n _ _
    exact pk_le 4 4 (fun _ => H) (fun z => absurd z (by omega))
  · intro n q _ hq _ hw
    refine pk_le 4 q (fun z => absurd z (by omega)) (fun _ => ⟨pk_in (6 * p + q) 36 (by omega) (nc_ix 6 p q), nm_r ?_ (nm_r (nI_1 q) (hw () trivial))⟩)
    rw [show (6 : Int32) * nI p + nI q = nI (6 * p + q) from nc_ix 6 p q, nI_clamp (by omega)]
    show lN _ + (nI (nc_a m (6 * p + q))).toInt64 = lN (nc_sd m p q + nc_a m (6 * p + q))
    have := nc_a_le hm (6 * p + q)
    rw [nI_l (by omega), lN_add]
/-- the table behind reduceRow -/
def nc_rr (i k fr cl : Nat) (y : Int64) (a : Nat → Int64) : Nat → Int64 := fun j => if 7 * i + fr ≤ j ∧ j < 7 * i + cl then (a (7 * k + k) * a j - a (7 * i + k) * a (7 * k + (j - 7 * i))) / y else a j
theorem nc_red {post : St2 → Prop} {f1 f2 f3 : Int32} {f4 f5 f6 : Int64} {a1 a2 a4 : Nat → Int32} {a3 a5 : Nat → Int64} (i k fr cl : Nat) {y : Int64} (hi : i < 6) (hk : k < 6) (hik : i ≠ k) (hf : fr ≤ cl) (hc : cl ≤ 7) (hy : ¬ y = 0)
    (H : post (f1, f2, f3, f4, f5, f6, a1, a2, nc_rr i k fr cl y a3, a4, a5)) :
    wpX_reduceRow post (f1, f2, f3, f4, f5, f6, a1, a2, a3, a4, a5) (nI i) (nI k) (nI fr) (nI cl) y := by
  have e1 : (7 : Int32) * nI k + nI k = nI (7 * k + k) := nc_ix 7 k k
  have e2 : (7 : Int32) * nI i + nI k = nI (7 * i + k) := nc_ix 7 i k
  refine ⟨pk_in (7 * k + k) 42 (by omega) e1, nm_r (e' := a3 (7 * k + k)) (by rw [e1, nI_clamp (by omega)]) ⟨pk_in (7 * i + k) 42 (by omega) e2, nm_r (e' := a3 (7 * i + k)) (by rw [e2, nI_clamp (by omega)]) (br_f hy ?_)⟩⟩
  refine pk_loop (fun n c s => wX_reduceRow_44 post (nI i) (nI k) (nI cl) (a3 (7 * k + k)) (a3 (7 * i + k)) y f1 f2 f3 f4 f5 f6 n (nI c) a1 a2 s a4 a5) (fun c s => fr ≤ c ∧ s = nc_rr i k fr c y a3) cl fr a3 hf ⟨Nat.le_refl _, ?_⟩ ?_ ?_
  · funext j
    unfold nc_rr
    rw [if_neg (by omega)]
  · intro n s h
    rw [h.2]
    exact pk_le cl cl (fun _ => H) (fun z => absurd z (by omega))
  · intro n c s hlt h hw
    obtain ⟨hfc, rfl⟩ := h
    have e3 : (7 : Int32) * nI i + nI c = nI (7 * i + c) := nc_ix 7 i c
    have e4 : (7 : Int32) * nI k + nI c = nI (7 * k + c) := nc_ix 7 k c
    have n1 : nc_rr i k fr c y a3 (7 * i + c) = a3 (7 * i + c) := if_neg (by omega)
    have n2 : nc_rr i k fr c y a3 (7 * k + c) = a3 (7 * k + c) := if_neg (by omega)
    refine pk_le cl c (fun z => absurd z (by omega)) (fun _ => ⟨pk_in (7 * i + c) 42 (by omega) e3, pk_in (7 * k + c) 42 (by omega) e4, hy, pk_in (7 * i + c) 42 (by omega) e3, nm_r (e' := nc_rr i k fr (c + 1) y a3) ?_ (nm_r (nI_1 c) (hw _ ⟨by omega, rfl⟩))⟩)
    rw [e3, e4, nI_clamp (by omega), nI_clamp (by omega), n1, n2]
    funext j
    by_cases e : j = 7 * i + c
    · rw [e, pk_uLs]
      unfold nc_rr
      rw [if_pos (by omega), show 7 * i + c - 7 * i = c by omega]
    · rw [pk_uLn e]
      unfold nc_rr
      by_cases z : 7 * i + fr ≤ j ∧ j < 7 * i + c
      · rw [if_pos z, if_pos (by omega)]
      · rw [if_neg z, if_neg (by omega)]
/-- the table of the balances of all points but the first -/
def nc_T (m : Nat → Nat) (p q : Nat) : Int64 := if p = q then lN (nc_sd m p 4) else -(lN (nc_a m (6 * p + q)))
def nc_F (m : Nat → Nat) (p q : Nat) (s : Nat → Int64) : Prop := ∀ p' q', 1 ≤ p' → p' < 4 → 1 ≤ q' → q' < 4 → (p' < p ∨ (p' = p ∧ q' < q)) → s (7 * (p' - 1) + q' - 1) = nc_T m p' q'
theorem nc_F_s {m : Nat → Nat} {p q k : Nat} {s : Nat → Int64} {v : Int64} (hp : 1 ≤ p) (hq : 1 ≤ q) (hq4 : q < 4) (h : nc_F m p q s) (hk : k = 7 * (p - 1) + q - 1) (hv : v = nc_T m p q) : nc_F m p (q + 1) (vp_updL s k v) := by
  intro p' q' h1 h2 h3 h4 h5
  by_cases e : p' = p ∧ q' = q
  · obtain ⟨rfl, rfl⟩ := e
    rw [← hk, pk_uLs, hv]
  · rw [pk_uLn (by omega)]
    exact h p' q' h1 h2 h3 h4 (by omega)
theorem nc_ix1 {p q : Nat} (hp : 1 ≤ p) (hq : 1 ≤ q) : (7 : Int32) * (nI p - 1) + nI q - 1 = nI (7 * (p - 1) + q - 1) := by
  have e : nI p - 1 = nI (p - 1) := pk_sub hp
  have e' : (7 : Int32) * nI (p - 1) + nI q = nI (7 * (p - 1) + q) := nc_ix 7 (p - 1) q
  rw [e, e']
  exact pk_sub (a := 7 * (p - 1) + q) (b := 1) (by omega)
theorem nc_neg {m : Nat → Nat} (hm : ∀ i, m i ≤ 9) (k : Nat) : (-(nc_A m k)).toInt64 = -(lN (nc_a m k)) := nc_neg_tab _ (Nat.lt_succ_of_le (nc_a_le hm k))
theorem nc_fill19 {post : Int64 → St2 → Prop} {J : Int32 → (Nat → Int32) → (Nat → Int32) → (Nat → Int64) → (Nat → Int32) → (Nat → Int64) → Prop} {x1 f2 f3 : Int32} {f4 f5 f6 : Int64} {a2 a4 : Nat → Int32} {a5 : Nat → Int64} {m : Nat → Nat} (hm : ∀ i, m i ≤ 9) (p : Nat) (hp : 1 ≤ p) (hp4 : p < 4) (s0 : Nat → Int64) (h0 : nc_F m p 1 s0)
    (H : ∀ s' : Nat → Int64, nc_F m (p + 1) 1 s' → J (nI (p + 1)) (nc_A m) a2 s' a4 a5) :
    ∃ fu, wX_determinant_19 post J x1 (nI p) 4 f2 f3 f4 f5 f6 fu 1 (nc_A m) a2 s0 a4 a5 := by
  refine pk_loop (fun n q s => wX_determinant_19 post J x1 (nI p) 4 f2 f3 f4 f5 f6 n (nI q) (nc_A m) a2 s a4 a5) (fun q s => 1 ≤ q ∧ nc_F m p q s) 4 1 s0 (by omega) ⟨by omega, h0⟩ ?_ ?_
  · intro n s h
    refine pk_le 4 4 (fun _ => nm_r (nI_1 p) (H s ?_)) (fun z => absurd z (by omega))
    intro p' q' h1 h2 h3 h4 h5
    exact h.2 p' q' h1 h2 h3 h4 (by omega)
  · intro n q s hq h hw
    obtain ⟨hq1, h⟩ := h
    have e := nc_ix1 hp hq1
    refine pk_le 4 q (fun z => absurd z (by omega)) (fun _ => pk_eq p q (fun z => ?_) (fun z => ?_))
    · refine nc_deg hm hp4 ⟨pk_in (7 * (p - 1) + q - 1) 42 (by omega) e, nm_e (nm_r (nI_1 q) (hw _ ⟨by omega, nc_F_s hp hq1 hq h ?_ ?_⟩))⟩
      · rw [e, nI_clamp (by omega)]
      · unfold nc_T
        rw [if_pos z]
    · refine ⟨pk_in (6 * p + q) 36 (by omega) (nc_ix 6 p q), pk_in (7 * (p - 1) + q - 1) 42 (by omega) e, nm_e (nm_r (nI_1 q) (hw _ ⟨by omega, nc_F_s hp hq1 hq h ?_ ?_⟩))⟩
      · rw [e, nI_clamp (by omega)]
      · rw [show (6 : Int32) * nI p + nI q = nI (6 * p + q) from nc_ix 6 p q, nI_clamp (by omega), nc_neg hm]
        unfold nc_T
        rw [if_neg z]
/-- the second pivot -/
def nc_Q (m : Nat → Nat) : Nat := (m 0 + m 4) * (m 1 + m 5) + (m 0 + m 4 + (m 1 + m 5)) * m 2
theorem nc_Q_le {m : Nat → Nat} (hm : ∀ i, m i ≤ 9) : nc_Q m ≤ 648 := by
  have h0 := hm 0
  have h1 := hm 1
  have h2 := hm 2
  have h4 := hm 4
  have h5 := hm 5
  have g1 : (m 0 + m 4) * (m 1 + m 5) ≤ 18 * 18 := Nat.mul_le_mul (by omega) (by omega)
  have g2 : (m 0 + m 4 + (m 1 + m 5)) * m 2 ≤ 36 * 9 := Nat.mul_le_mul (by omega) (by omega)
  unfold nc_Q
  omega
theorem nc_TT_D1 {m : Nat → Nat} (h : m 0 + m 2 + m 4 = 0) : nc_TT m = 0 := by
  have h0 : m 0 = 0 := by omega
  have h2 : m 2 = 0 := by omega
  have h4 : m 4 = 0 := by omega
  unfold nc_TT
  simp [h0, h2, h4]
theorem nc_TT_Q {m : Nat → Nat} (h1 : 0 < m 0 + m 2 + m 4) (h : nc_Q m = 0) : nc_TT m = 0 := by
  unfold nc_Q at h
  have a1 : (m 0 + m 4) * (m 1 + m 5) = 0 := by omega
  have a2 : (m 0 + m 4 + (m 1 + m 5)) * m 2 = 0 := by omega
  rcases Nat.mul_eq_zero.mp a2 with z | z
  · have h0 : m 0 = 0 := by omega
    have h4 : m 4 = 0 := by omega
    have h1 : m 1 = 0 := by omega
    have h5 : m 5 = 0 := by omega
    unfold nc_TT
    simp [h0, h4, h1, h5]
  · rcases Nat.mul_eq_zero.mp a1 with y | y
    · omega
    · have h1 : m 1 = 0 := by omega
      have h5 : m 5 = 0 := by omega
      unfold nc_TT
      simp [z, h1, h5]
theorem nc_id_Q (m : Nat → Nat) : lN (m 0 + m 2 + m 4) * lN (m 1 + m 2 + m 5) - -lN (m 2) * -lN (m 2) = lN (nc_Q m) := by
  unfold nc_Q
  simp only [← lN_add, ← lN_mul]
  generalize lN (m 0) = x0
  generalize lN (m 1) = x1
  generalize lN (m 2) = x2
  generalize lN (m 4) = x4
  generalize lN (m 5) = x5
  grind
theorem nc_id_det (m : Nat → Nat) : (lN (m 0 + m 2 + m 4) * lN (m 1 + m 2 + m 5) - -lN (m 2) * -lN (m 2)) * (lN (m 0 + m 2 + m 4) * lN (m 3 + m 4 + m 5) - -lN (m 4) * -lN (m 4)) - (lN (m 0 + m 2 + m 4) * -lN (m 5) - -lN (m 4) * -lN (m 2)) * (lN (m 0 + m 2 + m 4) * -lN (m 5) - -lN (m 2) * -lN (m 4)) = lN (m 0 + m 2 + m 4) * lN (nc_TT m) := by
  unfold nc_TT
  simp only [← lN_add, ← lN_mul]
  generalize lN (m 0) = x0
  generalize lN (m 1) = x1
  generalize lN (m 2) = x2
  generalize lN (m 3) = x3
  generalize lN (m 4) = x4
  generalize lN (m 5) = x5
  grind
theorem nc_elim {post : Int64 → St2 → Prop} {f2 f3 : Int32} {f4 f5 f6 : Int64} {a2 a4 : Nat → Int32} {a5 : Nat → Int64} {m : Nat → Nat} (hm : ∀ i, m i ≤ 9) (s : Nat → Int64) (h : nc_F m 4 1 s)
    (H : ∀ s' : Nat → Int64, post (lN (nc_TT m)) (4, f2, f3, f4, f5, f6, nc_A m, a2, s', a4, a5)) :
    ∃ fu, wX_determinant_85 post 3 fu 1 0 4 f2 f3 f4 f5 f6 (nc_A m) a2 s a4 a5 := by
  have s0 : s 0 = lN (m 0 + m 2 + m 4) := (h 1 1 (by omega) (by omega) (by omega) (by omega) (by omega)).trans (congrArg lN (nc_d1 m))
  have s1 : s 1 = -lN (m 2) := h 1 2 (by omega) (by omega) (by omega) (by omega) (by omega)
  have s2 : s 2 = -lN (m 4) := h 1 3 (by omega) (by omega) (by omega) (by omega) (by omega)
  have s7 : s 7 = -lN (m 2) := h 2 1 (by omega) (by omega) (by omega) (by omega) (by omega)
  have s8 : s 8 = lN (m 1 + m 2 + m 5) := (h 2 2 (by omega) (by omega) (by omega) (by omega) (by omega)).trans (congrArg lN (nc_d2 m))
  have s9 : s 9 = -lN (m 5) := h 2 3 (by omega) (by omega) (by omega) (by omega) (by omega)
  have s14 : s 14 = -lN (m 4) := h 3 1 (by omega) (by omega) (by omega) (by omega) (by omega)
  have s15 : s 15 = -lN (m 5) := h 3 2 (by omega) (by omega) (by omega) (by omega) (by omega)
  have s16 : s 16 = lN (m 3 + m 4 + m 5) := (h 3 3 (by omega) (by omega) (by omega) (by omega) (by omega)).trans (congrArg lN (nc_d3 m))
  have hT := nc_TT_le hm
  have hQ := nc_Q_le hm
  have b0 := hm 0
  have b2 := hm 2
  have b4 := hm 4
  have e8 : nc_rr 2 0 0 3 1 (nc_rr 1 0 0 3 1 s) 8 = lN (nc_Q m) := by
    show (s 0 * s 8 - s 7 * s 1) / 1 = _
    rw [nc_div1, s0, s8, s7, s1, nc_id_Q]
  refine ⟨4, br_f (by decide) ⟨pk_in 0 42 (by omega), nm_r s0 (br_c (fun z => ?_) (fun z => nm_r (e' := 1) (by decide) ⟨3, ?_⟩))⟩⟩
  · have hd : m 0 + m 2 + m 4 = 0 := (lN_eq (b := 0) (by omega) (by omega)).mp z
    have := H s
    rw [nc_TT_D1 hd] at this
    exact this
  refine br_f (by decide) (nc_red 1 0 0 3 (by omega) (by omega) (by omega) (by omega) (by omega) (by decide) (nm_r (e' := 2) (by decide) (br_f (by decide) (nc_red 2 0 0 3 (by omega) (by omega) (by omega) (by omega) (by omega) (by decide) (nm_r (e' := 3) (by decide) (br_t (by decide) (nm_r (e' := 1) (by decide) ?_)))))))
  have hd : 0 < m 0 + m 2 + m 4 := by
    rcases Nat.eq_zero_or_pos (m 0 + m 2 + m 4) with y | y
    · rw [y] at z
      exact absurd rfl z
    · exact y
  have e16 : nc_rr 2 1 1 3 (lN (m 0 + m 2 + m 4)) (nc_rr 2 0 0 3 1 (nc_rr 1 0 0 3 1 s)) 16 = lN (nc_TT m) := by
    show ((s 0 * s 8 - s 7 * s 1) / 1 * ((s 0 * s 16 - s 14 * s 2) / 1) - (s 0 * s 15 - s 14 * s 1) / 1 * ((s 0 * s 9 - s 7 * s 2) / 1)) / lN (m 0 + m 2 + m 4) = _
    simp only [nc_div1]
    rw [s0, s8, s7, s1, s16, s14, s2, s15, s9, nc_id_det, nc_ldiv hd (by omega) (by omega)]
  refine br_f (by decide) ⟨pk_in 8 42 (by omega), nm_r e8 (br_c (fun y => ?_) (fun y => nm_r (e' := 2) (by decide) ⟨2, ?_⟩))⟩
  · have hq : nc_Q m = 0 := (lN_eq (b := 0) (by omega) (by omega)).mp y
    have := H (nc_rr 2 0 0 3 1 (nc_rr 1 0 0 3 1 s))
    rw [nc_TT_Q hd hq] at this
    exact this
  refine br_f (by decide) (nc_red 2 1 1 3 (by omega) (by omega) (by omega) (by omega) (by omega) z (nm_r (e' := 3) (by decide) (br_t (by decide) (nm_r (e' := 2) (by decide) ?_))))
  refine br_f (by decide) ⟨pk_in 16 42 (by omega), nm_r e16 (br_c (fun x => ?_) (fun x => nm_r (e' := 3) (by decide) ⟨1, br_t (by decide) (nm_r (e' := 3) (by decide) (br_t (by decide) (H _)))⟩))⟩
  have := H (nc_rr 2 1 1 3 (lN (m 0 + m 2 + m 4)) (nc_rr 2 0 0 3 1 (nc_rr 1 0 0 3 1 s)))
  rw [x] at this
  exact this
theorem nc_det {post : Int64 → St2 → Prop} {f2 f3 : Int32} {f4 f5 f6 : Int64} {a2 a4 : Nat → Int32} {a3 a5 : Nat → Int64} {m : Nat → Nat} (hm : ∀ i, m i ≤ 9)
    (H : ∀ s' : Nat → Int64, post (lN (nc_TT m)) (4, f2, f3, f4, f5, f6, nc_A m, a2, s', a4, a5)) :
    wpX_determinant post (4, f2, f3, f4, f5, f6, nc_A m, a2, a3, a4, a5) := by
  refine nm_r (e' := 3) (by decide) ?_
  refine pk_loop (fun n p s => wX_determinant_9 post 3 4 f2 f3 f4 f5 f6 n (nI p) (nc_A m) a2 s a4 a5) (fun p s => 1 ≤ p ∧ nc_F m p 1 s) 4 1 a3 (by omega) ⟨by omega, fun p' q' h1 h2 h3 h4 h5 => absurd h5 (by omega)⟩ ?_ ?_
  · intro n s h
    exact pk_le 4 4 (fun _ => nc_elim hm s h.2 H) (fun z => absurd z (by omega))
  · intro n p s hp h hw
    exact pk_le 4 p (fun z => absurd z (by omega)) (fun _ => nc_fill19 hm p h.1 hp s h.2 (fun s' hs' => hw s' ⟨by omega, hs'⟩))
theorem nc_trees {post : Int64 → St2 → Prop} {f2 f3 : Int32} {f4 f5 f6 : Int64} {a2 a4 : Nat → Int32} {a3 a5 : Nat → Int64} {m : Nat → Nat} (hm : ∀ i, m i ≤ 9)
    (H : ∀ s' : Nat → Int64, post (lN (nc_TT m)) (4, f2, f3, f4, f5, f6, nc_A m, a2, s', a4, a5)) :
    wpX_trees post (4, f2, f3, f4, f5, f6, nc_A m, a2, a3, a4, a5) := nc_det hm H
theorem nc_pt {post : Int32 → Prop} {f2 f3 : Int32} {f4 f5 f6 : Int64} {a1 a2 a4 : Nat → Int32} {a3 a5 : Nat → Int64} (p : Nat) (hp : p < 4) (H : post 1) :
    wpX_isPoint post (4, f2, f3, f4, f5, f6, a1, a2, a3, a4, a5) (nI p) :=
  pk_lt p 0 (fun z => absurd z (by omega)) (fun _ => pk_le 4 p (fun z => absurd z (by omega)) (fun _ => H))
theorem nc_tw {post : Int64 → St2 → Prop} {f2 f3 : Int32} {f4 f5 f6 : Int64} {a2 a4 : Nat → Int32} {a3 a5 : Nat → Int64} {m : Nat → Nat} (hm : ∀ i, m i ≤ 9)
    (H : ∀ s' : Nat → Int64, post (lN (nc_TT m) - lN (nc_TT (nc_z m))) (4, f2, f3, f4, f5, f6, nc_A m, a2, s', a4, a5)) :
    wpX_treesWith post (4, f2, f3, f4, f5, f6, nc_A m, a2, a3, a4, a5) 2 3 := by
  unfold wpX_treesWith
  refine nc_pt 2 (by omega) ?_
  refine br_f (by decide) ?_
  refine nc_pt 3 (by omega) ?_
  refine br_f (by decide) (br_f (by decide) ?_)
  refine nc_det hm (fun s1 => ?_)
  refine ⟨pk_in 15 36 (by omega), nm_r (e' := nI (m 5)) rfl ?_⟩
  refine br_f (by decide) ⟨pk_in 15 36 (by omega), nm_e ⟨pk_in 20 36 (by omega), nm_r (nc_A_z m) ?_⟩⟩
  refine nc_det (nc_z_le hm) (fun s2 => ?_)
  exact br_f (by decide) ⟨pk_in 15 36 (by omega), nm_e ⟨pk_in 20 36 (by omega), nm_r (nc_A_b m) (H _)⟩⟩
theorem nc_id_tw (m : Nat → Nat) : lN (nc_TT m) - lN (nc_TT (nc_z m)) = lN (nc_TW m) := by
  have e : nc_TT m = nc_TT (nc_z m) + nc_TW m := by
    have z0 : nc_z m 0 = m 0 := rfl
    have z1 : nc_z m 1 = m 1 := rfl
    have z2 : nc_z m 2 = m 2 := rfl
    have z3 : nc_z m 3 = m 3 := rfl
    have z4 : nc_z m 4 = m 4 := rfl
    have z5 : nc_z m 5 = 0 := rfl
    unfold nc_TT nc_TW
    rw [z0, z1, z2, z3, z4, z5]
    simp only [Nat.mul_zero, Nat.add_zero, Nat.add_assoc]
  rw [e, lN_sub (by omega)]
  congr 1
  omega
end
section
/-- Euclid's loop: the product halves in every turn -/
theorem nc_eu {x y : Nat} (hx : 0 < x) (hxy : x < y) {n : Nat} (h : x * y < 2 ^ (n + 1)) : y % x < x ∧ (y % x) * x < 2 ^ n := by
  have h1 : y % x < x := Nat.mod_lt _ hx
  refine ⟨h1, ?_⟩
  have h2 : x + y % x ≤ y := by
    have := Nat.div_add_mod y x
    have d1 : 1 ≤ y / x := (Nat.le_div_iff_mul_le hx).mpr (by omega)
    have : x * 1 ≤ x * (y / x) := Nat.mul_le_mul_left x d1
    omega
  have h3 : x * (x + y % x) ≤ x * y := Nat.mul_le_mul_left x h2
  have h4 : x * (y % x) ≤ x * x := Nat.mul_le_mul_left x (by omega)
  have h5 : x * (x + y % x) = x * x + x * (y % x) := Nat.mul_add _ _ _
  have h6 : (y % x) * x = x * (y % x) := Nat.mul_comm _ _
  have h7 : 2 ^ (n + 1) = 2 * 2 ^ n := by rw [Nat.pow_succ, Nat.mul_comm]
  omega
theorem nc_show55 {post : St2 → Prop} {f1 f2 f3 : Int32} {f4 f5 f6 : Int64} {a1 a2 a4 : Nat → Int32} {a3 a5 : Nat → Int64} {X Y g : Nat} (hX : X < 2 ^ 31) (hY : Y < 2 ^ 31) (hg : 0 < g) (hg2 : g < 2 ^ 31)
    (H : post (f1, f2, f3, f4, lN (X / g), lN (Y / g), a1, a2, a3, a4, a5)) :
    wX_show_55 post (lN X) (lN Y) (lN g) f1 f2 f3 f4 f5 f6 a1 a2 a3 a4 a5 := by
  have hne := nc_lne hg hg2
  have hle : ¬ lN g ≤ 0 := fun z => by
    have := (lN_le (b := 0) hg2 (by omega)).mp z
    omega
  exact br_f hle ⟨hne, nm_r (pk_lDiv (by omega) hg (by omega)) ⟨hne, nm_r (pk_lDiv (by omega) hg (by omega)) H⟩⟩
theorem nc_show20 {post : St2 → Prop} {f1 f2 f3 : Int32} {f4 f5 f6 : Int64} {a1 a2 a4 : Nat → Int32} {a3 a5 : Nat → Int64} {X Y g : Nat} (hX : X < 2 ^ 31) (hY : Y < 2 ^ 31)
    (H : post (f1, f2, f3, f4, lN (X / g), lN (Y / g), a1, a2, a3, a4, a5)) :
    ∀ n x y k, x < y → y < 2 ^ 31 → x * y < 2 ^ n → k + n < 100 → Nat.gcd x y = g → wX_show_20 post (lN X) (lN Y) f1 f2 f3 f4 f5 f6 a1 a2 a3 a4 a5 (n + 1) (lN x) (lN y) (nI k) := by
  intro n
  induction n with
  | zero =>
    intro x y k hxy hy hp hk hg
    have hx : x = 0 := by
      rcases Nat.eq_zero_or_pos x with z | z
      · exact z
      · have := Nat.mul_pos z (show 0 < y by omega)
        omega
    subst hx
    rw [Nat.gcd_zero_left] at hg
    subst hg
    exact pk_le 100 k (fun z => absurd z (by omega)) (fun _ => br_t rfl (nc_show55 hX hY (by omega) hy H))
  | succ n ih =>
    intro x y k hxy hy hp hk hg
    rcases Nat.eq_zero_or_pos x with hx | hx
    · subst hx
      rw [Nat.gcd_zero_left] at hg
      subst hg
      exact pk_le 100 k (fun z => absurd z (by omega)) (fun _ => br_t rfl (nc_show55 hX hY (by omega) hy H))
    · have hne := nc_lne hx (by omega)
      obtain ⟨h1, h2⟩ := nc_eu hx hxy hp
      exact pk_le 100 k (fun z => absurd z (by omega)) (fun _ => br_f hne ⟨hne, nm_r (pk_lRem (by omega) hx (by omega)) (nm_r (nI_1 k) (ih (y % x) x (k + 1) h1 (by omega) h2 (by omega) (by rw [← Nat.gcd_rec]; exact hg)))⟩)
theorem nc_show {post : St2 → Prop} {f1 f2 f3 : Int32} {f4 f5 f6 : Int64} {a1 a2 a4 : Nat → Int32} {a3 a5 : Nat → Int64} {X Y : Nat} (hX : X < 2 ^ 31) (hY : Y < 2 ^ 31) (hY0 : 0 < Y)
    (H : post (f1, f2, f3, f4, lN (X / Nat.gcd X Y), lN (Y / Nat.gcd X Y), a1, a2, a3, a4, a5)) :
    wpX_show post (f1, f2, f3, f4, f5, f6, a1, a2, a3, a4, a5) (lN X) (lN Y) := by
  have h0 : 0 ≤ lN X := (lN_le (a := 0) (by omega) hX).mpr (by omega)
  refine br_t h0 ?_
  rcases Nat.eq_zero_or_pos X with z | z
  · subst z
    rw [Nat.gcd_zero_left] at H
    exact ⟨1, br_f (by decide) (br_t rfl (nc_show55 hX hY hY0 hY H))⟩
  · have hne := nc_lne z hX
    refine ⟨64, br_f (by decide) (br_f hne ⟨hne, nm_r (pk_lRem (by omega) z (by omega)) (nm_r (e' := nI 1) (by decide) ?_)⟩)⟩
    refine nc_show20 hX hY H 62 (Y % X) X 1 (Nat.mod_lt _ z) hX ?_ (by omega) (Nat.gcd_rec X Y).symm
    have h1 : Y % X < 2 ^ 31 := by
      have := Nat.mod_lt Y z
      omega
    calc Y % X * X < 2 ^ 31 * 2 ^ 31 := Nat.mul_lt_mul'' h1 hX
      _ = 2 ^ 62 := by decide
end
section
theorem nc_ul {a : Nat → Int64} {i : Int32} {k : Nat} {v v' : Int64} (hi : i = nI k) (hk : k < 2 ^ 31) (hv : v = v') : vp_updL a i.toNatClampNeg v = vp_updL a k v' := by
  rw [hi, nI_clamp hk, hv]
/-- the voltages of points 2 and 3 times the bottom, the source being s -/
def nc_N2 (m : Nat → Nat) (s : Nat) : Nat := (m 3 + m 4 + m 5) * nc_a m (12 + s) + m 5 * nc_a m (18 + s)
def nc_N3 (m : Nat → Nat) (s : Nat) : Nat := (m 1 + m 2 + m 5) * nc_a m (18 + s) + m 5 * nc_a m (12 + s)
theorem nc_N2_le {m : Nat → Nat} (hm : ∀ i, m i ≤ 9) (s : Nat) : nc_N2 m s ≤ 324 := by
  have h3 := hm 3
  have h4 := hm 4
  have h5 := hm 5
  have g1 : (m 3 + m 4 + m 5) * nc_a m (12 + s) ≤ 27 * 9 := Nat.mul_le_mul (by omega) (nc_a_le hm _)
  have g2 : m 5 * nc_a m (18 + s) ≤ 9 * 9 := Nat.mul_le_mul (by omega) (nc_a_le hm _)
  unfold nc_N2
  omega
/-- rowOf -/
theorem nc_s26 {post : Int32 → St2 → Prop} {f2 f3 : Int32} {f4 f5 f6 : Int64} {a1 a4 b2 : Nat → Int32} {a3 a5 : Nat → Int64} (s d : Nat) (hs : (s = 0 ∧ d = 1) ∨ (s = 1 ∧ d = 0)) (hb : ∀ p, p < 4 → b2 p = 0)
    (H : ∀ b4 : Nat → Int32, b4 0 = -1 → b4 1 = -1 → b4 2 = 0 → b4 3 = 1 → ∃ fu, wX_solve_91 post (nI s) 2 fu 0 4 f2 f3 f4 f5 f6 a1 b2 a3 b4 a5) :
    ∃ fu, wX_solve_26 post (nI s) (nI d) 4 f2 f3 f4 f5 f6 fu 0 0 a1 b2 a3 a4 a5 := by
  have b0 := hb 0 (by omega)
  have b1 := hb 1 (by omega)
  have b2' := hb 2 (by omega)
  have b3 := hb 3 (by omega)
  rcases hs with ⟨rfl, rfl⟩ | ⟨rfl, rfl⟩
  · refine ⟨5, br_f (by decide) ⟨pk_in 0 6 (by omega), nm_e ⟨pk_in 0 6 (by omega), pk_in 0 6 (by omega), br_t rfl (br_t rfl (nm_r (e' := 1) (by decide) ?_))⟩⟩⟩
    refine br_f (by decide) ⟨pk_in 1 6 (by omega), nm_e ⟨pk_in 1 6 (by omega), pk_in 0 6 (by omega), br_t (b1.trans b0.symm) (br_f (by decide) (br_t rfl (nm_r (e' := 2) (by decide) ?_)))⟩⟩
    refine br_f (by decide) ⟨pk_in 2 6 (by omega), nm_e ⟨pk_in 2 6 (by omega), pk_in 0 6 (by omega), br_t (b2'.trans b0.symm) (br_f (by decide) (br_f (by decide) ⟨pk_in 2 6 (by omega), nm_e (nm_r (e' := 1) (by decide) (nm_r (e' := 3) (by decide) ?_))⟩))⟩⟩
    refine br_f (by decide) ⟨pk_in 3 6 (by omega), nm_e ⟨pk_in 3 6 (by omega), pk_in 0 6 (by omega), br_t (b3.trans b0.symm) (br_f (by decide) (br_f (by decide) ⟨pk_in 3 6 (by omega), nm_e (nm_r (e' := 2) (by decide) (nm_r (e' := 4) (by decide) ?_))⟩))⟩⟩
    exact br_t (by decide) (H _ rfl rfl rfl rfl)
  · refine ⟨5, br_f (by decide) ⟨pk_in 0 6 (by omega), nm_e ⟨pk_in 0 6 (by omega), pk_in 1 6 (by omega), br_t (b0.trans b1.symm) (br_f (by decide) (br_t rfl (nm_r (e' := 1) (by decide) ?_)))⟩⟩⟩
    refine br_f (by decide) ⟨pk_in 1 6 (by omega), nm_e ⟨pk_in 1 6 (by omega), pk_in 1 6 (by omega), br_t rfl (br_t rfl (nm_r (e' := 2) (by decide) ?_))⟩⟩
    refine br_f (by decide) ⟨pk_in 2 6 (by omega), nm_e ⟨pk_in 2 6 (by omega), pk_in 1 6 (by omega), br_t (b2'.trans b1.symm) (br_f (by decide) (br_f (by decide) ⟨pk_in 2 6 (by omega), nm_e (nm_r (e' := 1) (by decide) (nm_r (e' := 3) (by decide) ?_))⟩))⟩⟩
    refine br_f (by decide) ⟨pk_in 3 6 (by omega), nm_e ⟨pk_in 3 6 (by omega), pk_in 1 6 (by omega), br_t (b3.trans b1.symm) (br_f (by decide) (br_f (by decide) ⟨pk_in 3 6 (by omega), nm_e (nm_r (e' := 2) (by decide) (nm_r (e' := 4) (by decide) ?_))⟩))⟩⟩
    exact br_t (by decide) (H _ rfl rfl rfl rfl)
/-- the rows of points 2 and 3 -/
theorem nc_fr2 {post : St2 → Prop} {f2 f3 : Int32} {f4 f5 f6 : Int64} {a2 a4 : Nat → Int32} {a3 a5 : Nat → Int64} {m : Nat → Nat} (hm : ∀ i, m i ≤ 9) (s : Nat) (hs : s < 2) (h0 : a4 0 = -1) (h1 : a4 1 = -1) (h2 : a4 2 = 0) (h3 : a4 3 = 1)
    (H : post (4, f2, f3, f4, f5, f6, nc_A m, a2, vp_updL (vp_updL (vp_updL a3 0 (lN (m 1 + m 2 + m 5))) 1 (-lN (m 5))) 2 (lN (nc_a m (12 + s))), a4, a5)) :
    wpX_fillRow post (4, f2, f3, f4, f5, f6, nc_A m, a2, a3, a4, a5) 2 (nI s) 2 := by
  have n2 : ¬ a4 2 = -1 := by
    rw [h2]
    decide
  have n3 : ¬ a4 3 = -1 := by
    rw [h3]
    decide
  have e2 : (7 : Int32) * 0 + a4 2 = nI 0 := by
    rw [h2]
    decide
  have e3 : (7 : Int32) * 0 + a4 3 = nI 1 := by
    rw [h3]
    decide
  have ha := nc_a_le hm (12 + s)
  have es : (6 : Int32) * 2 + nI s = nI (12 + s) := nc_ix 6 2 s
  refine ⟨pk_in 2 6 (by omega), nm_r h2 (br_f (by decide) ⟨5, ?_⟩)⟩
  refine br_f (by decide) ⟨pk_in 0 6 (by omega), br_t h0 (nm_r (e' := 1) (by decide) ?_)⟩
  refine br_f (by decide) ⟨pk_in 1 6 (by omega), br_t h1 (nm_r (e' := 2) (by decide) ?_)⟩
  refine br_f (by decide) ⟨pk_in 2 6 (by omega), br_f n2 ⟨pk_in 2 6 (by omega), br_t rfl (nc_deg (p := 2) hm (by omega) ⟨pk_in 0 42 (by omega) e2, nm_r (nc_ul e2 (by omega) (congrArg lN (nc_d2 m))) (nm_r (e' := 3) (by decide) ?_)⟩)⟩⟩
  refine br_f (by decide) ⟨pk_in 3 6 (by omega), br_f n3 ⟨pk_in 3 6 (by omega), br_f (by decide) ⟨pk_in 15 36 (by omega), pk_in 1 42 (by omega) e3, nm_r (nc_ul e3 (by omega) (nc_neg hm 15)) (nm_r (e' := 4) (by decide) ?_)⟩⟩⟩
  refine br_t (by decide) ⟨pk_in (12 + s) 36 (by omega) es, pk_in 2 42 (by omega), nm_r (nc_ul (k := 2) rfl (by omega) ?_) H⟩
  rw [es, nI_clamp (by omega)]
  exact nI_l (by omega)
theorem nc_fr3 {post : St2 → Prop} {f2 f3 : Int32} {f4 f5 f6 : Int64} {a2 a4 : Nat → Int32} {a3 a5 : Nat → Int64} {m : Nat → Nat} (hm : ∀ i, m i ≤ 9) (s : Nat) (hs : s < 2) (h0 : a4 0 = -1) (h1 : a4 1 = -1) (h2 : a4 2 = 0) (h3 : a4 3 = 1)
    (H : post (4, f2, f3, f4, f5, f6, nc_A m, a2, vp_updL (vp_updL (vp_updL a3 7 (-lN (m 5))) 8 (lN (m 3 + m 4 + m 5))) 9 (lN (nc_a m (18 + s))), a4, a5)) :
    wpX_fillRow post (4, f2, f3, f4, f5, f6, nc_A m, a2, a3, a4, a5) 3 (nI s) 2 := by
  have n2 : ¬ a4 2 = -1 := by
    rw [h2]
    decide
  have n3 : ¬ a4 3 = -1 := by
    rw [h3]
    decide
  have e2 : (7 : Int32) * 1 + a4 2 = nI 7 := by
    rw [h2]
    decide
  have e3 : (7 : Int32) * 1 + a4 3 = nI 8 := by
    rw [h3]
    decide
  have ha := nc_a_le hm (18 + s)
  have es : (6 : Int32) * 3 + nI s = nI (18 + s) := nc_ix 6 3 s
  refine ⟨pk_in 3 6 (by omega), nm_r h3 (br_f (by decide) ⟨5, ?_⟩)⟩
  refine br_f (by decide) ⟨pk_in 0 6 (by omega), br_t h0 (nm_r (e' := 1) (by decide) ?_)⟩
  refine br_f (by decide) ⟨pk_in 1 6 (by omega), br_t h1 (nm_r (e' := 2) (by decide) ?_)⟩
  refine br_f (by decide) ⟨pk_in 2 6 (by omega), br_f n2 ⟨pk_in 2 6 (by omega), br_f (by decide) ⟨pk_in 20 36 (by omega), pk_in 7 42 (by omega) e2, nm_r (nc_ul e2 (by omega) (nc_neg hm 20)) (nm_r (e' := 3) (by decide) ?_)⟩⟩⟩
  refine br_f (by decide) ⟨pk_in 3 6 (by omega), br_f n3 ⟨pk_in 3 6 (by omega), br_t rfl (nc_deg (p := 3) hm (by omega) ⟨pk_in 8 42 (by omega) e3, nm_r (nc_ul e3 (by omega) (congrArg lN (nc_d3 m))) (nm_r (e' := 4) (by decide) ?_)⟩)⟩⟩
  refine br_t (by decide) ⟨pk_in (18 + s) 36 (by omega) es, pk_in 9 42 (by omega), nm_r (nc_ul (k := 9) rfl (by omega) ?_) H⟩
  rw [es, nI_clamp (by omega)]
  exact nI_l (by omega)
/-- what the table holds before the steps -/
def nc_G (m : Nat → Nat) (s : Nat) (t : Nat → Int64) : Prop := t 0 = lN (m 1 + m 2 + m 5) ∧ t 1 = -lN (m 5) ∧ t 2 = lN (nc_a m (12 + s)) ∧ t 7 = -lN (m 5) ∧ t 8 = lN (m 3 + m 4 + m 5) ∧ t 9 = lN (nc_a m (18 + s))
theorem nc_s91 {post : Int32 → St2 → Prop} {f2 f3 : Int32} {f4 f5 f6 : Int64} {a2 a4 : Nat → Int32} {a3 a5 : Nat → Int64} {m : Nat → Nat} (hm : ∀ i, m i ≤ 9) (s : Nat) (hs : s < 2) (h0 : a4 0 = -1) (h1 : a4 1 = -1) (h2 : a4 2 = 0) (h3 : a4 3 = 1)
    (H : ∀ t : Nat → Int64, nc_G m s t → ∃ fu, wX_solve_120 post (nI s) 2 fu 1 0 4 f2 f3 f4 f5 f6 (nc_A m) a2 t a4 a5) :
    ∃ fu, wX_solve_91 post (nI s) 2 fu 0 4 f2 f3 f4 f5 f6 (nc_A m) a2 a3 a4 a5 := by
  refine ⟨5, br_f (by decide) ⟨pk_in 0 6 (by omega), nm_r h0 (br_t rfl (nm_r (e' := 1) (by decide) ?_))⟩⟩
  refine br_f (by decide) ⟨pk_in 1 6 (by omega), nm_r h1 (br_t rfl (nm_r (e' := 2) (by decide) ?_))⟩
  refine br_f (by decide) (nc_fr2 hm s hs h0 h1 h2 h3 (nm_r (e' := 3) (by decide) ?_))
  refine br_f (by decide) (nc_fr3 hm s hs h0 h1 h2 h3 (nm_r (e' := 4) (by decide) ?_))
  exact br_t (by decide) (H _ ⟨rfl, rfl, rfl, rfl, rfl, rfl⟩)
/-- tops -/
theorem nc_s196 {post : Int32 → St2 → Prop} {f2 f3 : Int32} {f4 f5 f6 : Int64} {a1 a2 a4 : Nat → Int32} {a3 a5 : Nat → Int64} (s d : Nat) (hs : (s = 0 ∧ d = 1) ∨ (s = 1 ∧ d = 0)) (h0 : a4 0 = -1) (h1 : a4 1 = -1) (h2 : a4 2 = 0) (h3 : a4 3 = 1)
    (H : ∀ b5 : Nat → Int64, b5 s = f4 → b5 d = 0 → b5 2 = a3 2 → b5 3 = a3 9 → post 1 (4, f2, f3, f4, f5, f6, a1, a2, a3, a4, b5)) :
    ∃ fu, wX_solve_196 post (nI s) 2 4 f2 f3 f4 f5 f6 fu 0 a1 a2 a3 a4 a5 := by
  have n2 : ¬ a4 2 = -1 := by
    rw [h2]
    decide
  have n3 : ¬ a4 3 = -1 := by
    rw [h3]
    decide
  have e2 : (7 : Int32) * a4 2 + 2 = nI 2 := by
    rw [h2]
    decide
  have e3 : (7 : Int32) * a4 3 + 2 = nI 9 := by
    rw [h3]
    decide
  refine ⟨5, br_f (by decide) ⟨pk_in 0 6 (by omega), br_t h0 ⟨pk_in 0 6 (by omega), nm_e (nm_r (e' := 1) (by decide) ?_)⟩⟩⟩
  refine br_f (by decide) ⟨pk_in 1 6 (by omega), br_t h1 ⟨pk_in 1 6 (by omega), nm_e (nm_r (e' := 2) (by decide) ?_)⟩⟩
  refine br_f (by decide) ⟨pk_in 2 6 (by omega), br_f n2 ⟨pk_in 2 6 (by omega), pk_in 2 42 (by omega) e2, pk_in 2 6 (by omega), nm_r (nc_ul (k := 2) (v' := a3 2) rfl (by omega) (congrArg a3 (pk_cl 2 e2))) (nm_r (e' := 3) (by decide) ?_)⟩⟩
  refine br_f (by decide) ⟨pk_in 3 6 (by omega), br_f n3 ⟨pk_in 3 6 (by omega), pk_in 9 42 (by omega) e3, pk_in 3 6 (by omega), nm_r (nc_ul (k := 3) (v' := a3 9) rfl (by omega) (congrArg a3 (pk_cl 9 e3))) (nm_r (e' := 4) (by decide) ?_)⟩⟩
  rcases hs with ⟨rfl, rfl⟩ | ⟨rfl, rfl⟩
  · exact br_t (by decide) ⟨pk_in 0 6 (by omega), nm_e (H _ rfl rfl rfl rfl)⟩
  · exact br_t (by decide) ⟨pk_in 1 6 (by omega), nm_e (H _ rfl rfl rfl rfl)⟩
theorem nc_id_B (m : Nat → Nat) : lN (m 1 + m 2 + m 5) * lN (m 3 + m 4 + m 5) - -lN (m 5) * -lN (m 5) = lN (nc_B m) := by
  unfold nc_B
  simp only [← lN_add, ← lN_mul]
  generalize lN (m 1) = x1
  generalize lN (m 2) = x2
  generalize lN (m 3) = x3
  generalize lN (m 4) = x4
  generalize lN (m 5) = x5
  grind
theorem nc_id_N3 (m : Nat → Nat) (s : Nat) : lN (m 1 + m 2 + m 5) * lN (nc_a m (18 + s)) - -lN (m 5) * lN (nc_a m (12 + s)) = lN (nc_N3 m s) := by
  unfold nc_N3
  simp only [← lN_add, ← lN_mul]
  generalize lN (nc_a m (18 + s)) = c
  generalize lN (nc_a m (12 + s)) = a
  generalize lN (m 1) = x1
  generalize lN (m 2) = x2
  generalize lN (m 5) = x5
  grind
theorem nc_id_N2 (m : Nat → Nat) (s : Nat) : lN (nc_B m) * lN (nc_a m (12 + s)) - -lN (m 5) * lN (nc_N3 m s) = lN (m 1 + m 2 + m 5) * lN (nc_N2 m s) := by
  unfold nc_B nc_N3 nc_N2
  simp only [← lN_add, ← lN_mul]
  generalize lN (nc_a m (18 + s)) = c
  generalize lN (nc_a m (12 + s)) = a
  generalize lN (m 1) = x1
  generalize lN (m 2) = x2
  generalize lN (m 3) = x3
  generalize lN (m 4) = x4
  generalize lN (m 5) = x5
  grind
theorem nc_D2_pos {m : Nat → Nat} (hT : 0 < nc_TT m) : 0 < m 1 + m 2 + m 5 := by
  rcases Nat.eq_zero_or_pos (m 1 + m 2 + m 5) with y | y
  · have h1 : m 1 = 0 := by omega
    have h2 : m 2 = 0 := by omega
    have h5 : m 5 = 0 := by omega
    unfold nc_TT at hT
    simp [h1, h2, h5] at hT
  · exact y
/-- the steps -/
theorem nc_s120 {post : Int32 → St2 → Prop} {f2 f3 : Int32} {f4 f5 f6 : Int64} {a2 a4 : Nat → Int32} {t a5 : Nat → Int64} {m : Nat → Nat} (hm : ∀ i, m i ≤ 9) (hT : 0 < nc_TT m) (s d : Nat) (hs : (s = 0 ∧ d = 1) ∨ (s = 1 ∧ d = 0)) (h0 : a4 0 = -1) (h1 : a4 1 = -1) (h2 : a4 2 = 0) (h3 : a4 3 = 1) (ht : nc_G m s t)
    (H : ∀ b3 b5 : Nat → Int64, b5 s = lN (nc_B m) → b5 d = 0 → b5 2 = lN (nc_N2 m s) → b5 3 = lN (nc_N3 m s) → post 1 (4, f2, f3, lN (nc_B m), f5, f6, nc_A m, a2, b3, a4, b5)) :
    ∃ fu, wX_solve_120 post (nI s) 2 fu 1 0 4 f2 f3 f4 f5 f6 (nc_A m) a2 t a4 a5 := by
  obtain ⟨t0, t1, t2, t7, t8, t9⟩ := ht
  have hD := nc_D2_pos hT
  have b1 := hm 1
  have b2 := hm 2
  have b5 := hm 5
  have hne := nc_lne hD (by omega)
  have hN := nc_N2_le hm s
  have e8 : nc_rr 1 0 0 3 1 t 8 = lN (nc_B m) := by
    show (t 0 * t 8 - t 7 * t 1) / 1 = _
    rw [nc_div1, t0, t8, t7, t1, nc_id_B]
  have e9 : nc_rr 1 0 0 3 1 t 9 = lN (nc_N3 m s) := by
    show (t 0 * t 9 - t 7 * t 2) / 1 = _
    rw [nc_div1, t0, t9, t7, t2, nc_id_N3]
  have g2 : nc_rr 0 1 0 3 (lN (m 1 + m 2 + m 5)) (nc_rr 1 0 0 3 1 t) 2 = lN (nc_N2 m s) := by
    show (nc_rr 1 0 0 3 1 t 8 * t 2 - t 1 * nc_rr 1 0 0 3 1 t 9) / lN (m 1 + m 2 + m 5) = _
    rw [e8, e9, t2, t1, nc_id_N2, nc_ldiv hD (by omega) (by omega)]
  have g9 : nc_rr 0 1 0 3 (lN (m 1 + m 2 + m 5)) (nc_rr 1 0 0 3 1 t) 9 = lN (nc_N3 m s) := e9
  refine ⟨3, br_f (by decide) ⟨pk_in 0 42 (by omega), nm_r t0 ⟨3, ?_⟩⟩⟩
  refine br_f (by decide) (br_t rfl (nm_r (e' := 1) (by decide) ?_))
  refine br_f (by decide) (br_f (by decide) (nc_red 1 0 0 3 (by omega) (by omega) (by omega) (by omega) (by omega) (by decide) (nm_r (e' := 2) (by decide) ?_)))
  refine br_t (by decide) (nm_r (e' := 1) (by decide) ?_)
  refine br_f (by decide) ⟨pk_in 8 42 (by omega), nm_r e8 ⟨3, ?_⟩⟩
  refine br_f (by decide) (br_f (by decide) (nc_red 0 1 0 3 (by omega) (by omega) (by omega) (by omega) (by omega) hne (nm_r (e' := 1) (by decide) ?_)))
  refine br_f (by decide) (br_t rfl (nm_r (e' := 2) (by decide) ?_))
  refine br_t (by decide) (nm_r (e' := 2) (by decide) ?_)
  exact br_t (by decide) (nc_s196 s d hs h0 h1 h2 h3 (fun b5 k0 k1 k2 k3 => H _ b5 k0 k1 (k2.trans g2) (k3.trans g9)))
theorem nc_solve {post : Int32 → St2 → Prop} {f2 f3 : Int32} {f4 f5 f6 : Int64} {a2 a4 : Nat → Int32} {a3 a5 : Nat → Int64} {m : Nat → Nat} (hm : ∀ i, m i ≤ 9) (hT : 0 < nc_TT m) (s d : Nat) (hs : (s = 0 ∧ d = 1) ∨ (s = 1 ∧ d = 0))
    (H : ∀ (b2 b4 : Nat → Int32) (b3 b5 : Nat → Int64), (∀ p, p < 4 → b2 p = 0) → b5 s = lN (nc_B m) → b5 d = 0 → b5 2 = lN (nc_N2 m s) → b5 3 = lN (nc_N3 m s) → post 1 (4, f2, f3, lN (nc_B m), f5, f6, nc_A m, b2, b3, b4, b5)) :
    wpX_solve post (4, f2, f3, f4, f5, f6, nc_A m, a2, a3, a4, a5) (nI s) (nI d) := by
  unfold wpX_solve
  refine nc_fp hm (fun b2 hb => ?_)
  have hb0 : ∀ p, p < 4 → b2 p = 0 := fun p hp => by
    rw [hb p hp, nc_all0 hT p hp]
    rfl
  have hs2 : s < 2 := by omega
  have hd2 : d < 2 := by omega
  refine ⟨pk_in s 6 (by omega), pk_in d 6 (by omega), br_t ?_ ?_⟩
  · rw [nI_clamp (by omega), nI_clamp (by omega), hb0 s (by omega), hb0 d (by omega)]
  · exact nc_s26 s d hs hb0 (fun b4 h0 h1 h2 h3 => nc_s91 hm s hs2 h0 h1 h2 h3 (fun t ht => nc_s120 hm hT s d hs h0 h1 h2 h3 ht (fun b3 b5 k0 k1 k2 k3 => H b2 b4 b3 b5 hb0 k0 k1 k2 k3)))
end
section
/-- currentFrom -/
def nc_cs (m : Nat → Nat) (s : Nat) (b : Nat → Int64) : Nat → Int64
  | 0 => 0
  | q + 1 => nc_cs m s b q + lN (nc_a m (6 * s + q)) * (lN (nc_B m) - b q)
theorem nc_cs4 {m : Nat → Nat} {b : Nat → Int64} (s d : Nat) (hs : (s = 0 ∧ d = 1) ∨ (s = 1 ∧ d = 0)) (k0 : b s = lN (nc_B m)) (k1 : b d = 0) (k2 : b 2 = lN (nc_N2 m s)) (k3 : b 3 = lN (nc_N3 m s)) : nc_cs m s b 4 = lN (nc_TT m) := by
  rcases hs with ⟨rfl, rfl⟩ | ⟨rfl, rfl⟩
  · show 0 + lN 0 * (lN (nc_B m) - b 0) + lN (m 0) * (lN (nc_B m) - b 1) + lN (m 1) * (lN (nc_B m) - b 2) + lN (m 3) * (lN (nc_B m) - b 3) = _
    rw [k0, k1, k2, k3]
    have e2 : nc_N2 m 0 = (m 3 + m 4 + m 5) * m 1 + m 5 * m 3 := rfl
    have e3 : nc_N3 m 0 = (m 1 + m 2 + m 5) * m 3 + m 5 * m 1 := rfl
    rw [e2, e3, ← nc_l0]
    unfold nc_B nc_TT
    simp only [← lN_add, ← lN_mul]
    generalize lN (m 0) = x0
    generalize lN (m 1) = x1
    generalize lN (m 2) = x2
    generalize lN (m 3) = x3
    generalize lN (m 4) = x4
    generalize lN (m 5) = x5
    grind
  · show 0 + lN (m 0) * (lN (nc_B m) - b 0) + lN 0 * (lN (nc_B m) - b 1) + lN (m 2) * (lN (nc_B m) - b 2) + lN (m 4) * (lN (nc_B m) - b 3) = _
    rw [k0, k1, k2, k3]
    have e2 : nc_N2 m 1 = (m 3 + m 4 + m 5) * m 2 + m 5 * m 4 := rfl
    have e3 : nc_N3 m 1 = (m 1 + m 2 + m 5) * m 4 + m 5 * m 2 := rfl
    rw [e2, e3, ← nc_l0]
    unfold nc_B nc_TT
    simp only [← lN_add, ← lN_mul]
    generalize lN (m 0) = x0
    generalize lN (m 1) = x1
    generalize lN (m 2) = x2
    generalize lN (m 3) = x3
    generalize lN (m 4) = x4
    generalize lN (m 5) = x5
    grind
theorem nc_cf {post : Int64 → Prop} {f2 f3 : Int32} {f5 f6 : Int64} {a2 a4 : Nat → Int32} {a3 b : Nat → Int64} {m : Nat → Nat} (hm : ∀ i, m i ≤ 9) (s d : Nat) (hs : (s = 0 ∧ d = 1) ∨ (s = 1 ∧ d = 0)) (k0 : b s = lN (nc_B m)) (k1 : b d = 0) (k2 : b 2 = lN (nc_N2 m s)) (k3 : b 3 = lN (nc_N3 m s)) (H : post (lN (nc_TT m))) :
    wpX_currentFrom post (4, f2, f3, lN (nc_B m), f5, f6, nc_A m, a2, a3, a4, b) (nI s) := by
  have hs2 : s < 2 := by omega
  refine pk_loop (σ := Unit) (fun n q _ => wX_currentFrom_5 post (nI s) 4 f2 f3 (lN (nc_B m)) f5 f6 (nc_A m) a2 a3 a4 b n (nc_cs m s b q) (nI q)) (fun _ _ => True) 4 0 () (by omega) trivial ?_ ?_
  · intro n _ _
    rw [← nc_cs4 s d hs k0 k1 k2 k3] at H
    exact pk_le 4 4 (fun _ => H) (fun z => absurd z (by omega))
  · intro n q _ hq _ hw
    refine pk_le 4 q (fun z => absurd z (by omega)) (fun _ => ⟨pk_in (6 * s + q) 36 (by omega) (nc_ix 6 s q), pk_in q 6 (by omega), nm_r ?_ (nm_r (nI_1 q) (hw () trivial))⟩)
    rw [show (6 : Int32) * nI s + nI q = nI (6 * s + q) from nc_ix 6 s q, nI_clamp (by omega), nI_clamp (by omega)]
    show nc_cs m s b q + (nI (nc_a m (6 * s + q))).toInt64 * _ = nc_cs m s b q + lN (nc_a m (6 * s + q)) * _
    have := nc_a_le hm (6 * s + q)
    rw [nI_l (by omega)]
theorem nc_mul2 {a b : Nat} : 0 < a * b ↔ 0 < a ∧ 0 < b :=
  ⟨fun h => ⟨Nat.pos_of_mul_pos_right h, Nat.pos_of_mul_pos_left h⟩, fun h => Nat.mul_pos h.1 h.2⟩
theorem nc_conn_B : ∀ b0 b1 b2 b3 b4 b5 : Bool, nc_conn b0 b1 b2 b3 b4 b5 = true → ((b1 && b3) || (b2 && b3) || (b1 && b4) || (b2 && b4) || (b1 && b5) || (b2 && b5) || (b3 && b5) || (b4 && b5)) = true := by decide +kernel
theorem nc_B_pos {m : Nat → Nat} (hT : 0 < nc_TT m) : 0 < nc_B m := by
  have h := nc_conn_B _ _ _ _ _ _ ((nc_TT_pos m).mp hT)
  unfold nc_B
  simp only [Bool.or_eq_true, Bool.and_eq_true, decide_eq_true_eq] at h
  simp only [Nat.add_pos_iff_pos_or_pos, nc_mul2]
  exact h
theorem nc_res {post : Int32 → St2 → Prop} {f2 f3 : Int32} {f4 f5 f6 : Int64} {a2 a4 : Nat → Int32} {a3 a5 : Nat → Int64} {m : Nat → Nat} (hm : ∀ i, m i ≤ 9) (hT : 0 < nc_TT m) (s d : Nat) (hs : (s = 0 ∧ d = 1) ∨ (s = 1 ∧ d = 0))
    (H : ∀ (b2 b4 : Nat → Int32) (b3 b5 : Nat → Int64), post 0 (4, f2, f3, lN (nc_B m), lN (nc_B m / Nat.gcd (nc_B m) (nc_TT m)), lN (nc_TT m / Nat.gcd (nc_B m) (nc_TT m)), nc_A m, b2, b3, b4, b5)) :
    wpX_resistance post (4, f2, f3, f4, f5, f6, nc_A m, a2, a3, a4, a5) (nI s) (nI d) := by
  have hT2 := nc_TT_le hm
  have hB2 := nc_B_le hm
  unfold wpX_resistance
  refine nc_pt s (by omega) ?_
  refine br_f (by decide) ?_
  refine nc_pt d (by omega) ?_
  refine br_f (by decide) ?_
  refine pk_eq s d (fun z => absurd z (by omega)) (fun _ => ?_)
  refine nc_solve hm hT s d hs (fun b2 b4 b3 b5 hb k0 k1 k2 k3 => ?_)
  refine br_f (by decide) ?_
  refine nc_cf hm s d hs k0 k1 k2 k3 ?_
  refine nc_show (by omega) (by omega) hT ?_
  exact H b2 b4 b3 b5
theorem nc_rt {post : Int64 → St2 → Prop} {f2 f3 : Int32} {f4 f5 f6 : Int64} {a2 a4 : Nat → Int32} {a3 a5 : Nat → Int64} {m : Nat → Nat} (hm : ∀ i, m i ≤ 9) (hT : 0 < nc_TT m) (s d : Nat) (hs : (s = 0 ∧ d = 1) ∨ (s = 1 ∧ d = 0))
    (H : ∀ (g4 g5 g6 : Int64) (b2 b4 : Nat → Int32) (b3 b5 : Nat → Int64), post (lN (nc_B m / Nat.gcd (nc_B m) (nc_TT m))) (4, f2, f3, g4, g5, g6, nc_A m, b2, b3, b4, b5)) :
    wpX_resistanceTop post (4, f2, f3, f4, f5, f6, nc_A m, a2, a3, a4, a5) (nI s) (nI d) := by
  unfold wpX_resistanceTop
  refine nc_res hm hT s d hs (fun b2 b4 b3 b5 => ?_)
  exact br_t (by decide) (H _ _ _ b2 b4 b3 b5)
theorem nc_rb {post : Int64 → St2 → Prop} {f2 f3 : Int32} {f4 f5 f6 : Int64} {a2 a4 : Nat → Int32} {a3 a5 : Nat → Int64} {m : Nat → Nat} (hm : ∀ i, m i ≤ 9) (hT : 0 < nc_TT m) (s d : Nat) (hs : (s = 0 ∧ d = 1) ∨ (s = 1 ∧ d = 0))
    (H : ∀ (g4 g5 g6 : Int64) (b2 b4 : Nat → Int32) (b3 b5 : Nat → Int64), post (lN (nc_TT m / Nat.gcd (nc_B m) (nc_TT m))) (4, f2, f3, g4, g5, g6, nc_A m, b2, b3, b4, b5)) :
    wpX_resistanceBottom post (4, f2, f3, f4, f5, f6, nc_A m, a2, a3, a4, a5) (nI s) (nI d) := by
  unfold wpX_resistanceBottom
  refine nc_res hm hT s d hs (fun b2 b4 b3 b5 => ?_)
  exact br_t (by decide) (H _ _ _ b2 b4 b3 b5)
theorem nc_cur {post : St2 → Prop} {f4 f5 f6 : Int64} {a2 a4 : Nat → Int32} {a3 a5 : Nat → Int64} {m : Nat → Nat} (hm : ∀ i, m i ≤ 9) (hT : 0 < nc_TT m)
    (H : ∀ (b2 b4 : Nat → Int32) (b3 b5 : Nat → Int64), post (4, 0, 1, lN (nc_B m), lN (nc_TT m / Nat.gcd (nc_TT m) (nc_B m)), lN (nc_B m / Nat.gcd (nc_TT m) (nc_B m)), nc_A m, b2, b3, b4, b5)) :
    wpX_current post (4, 0, 1, f4, f5, f6, nc_A m, a2, a3, a4, a5) := by
  have hT2 := nc_TT_le hm
  have hB2 := nc_B_le hm
  have hB := nc_B_pos hT
  have hs : ((0 : Nat) = 0 ∧ (1 : Nat) = 1) ∨ ((0 : Nat) = 1 ∧ (1 : Nat) = 0) := by omega
  unfold wpX_current
  refine nc_solve hm hT 0 1 hs (fun b2 b4 b3 b5 hb k0 k1 k2 k3 => ?_)
  refine br_f (by decide) ?_
  refine nc_cf hm 0 1 hs k0 k1 k2 k3 ?_
  refine nc_show (by omega) (by omega) hB ?_
  exact H b2 b4 b3 b5
theorem nc_ct {post : Int64 → St2 → Prop} {f4 f5 f6 : Int64} {a2 a4 : Nat → Int32} {a3 a5 : Nat → Int64} {m : Nat → Nat} (hm : ∀ i, m i ≤ 9) (hT : 0 < nc_TT m)
    (H : ∀ (g4 g5 g6 : Int64) (b2 b4 : Nat → Int32) (b3 b5 : Nat → Int64), post (lN (nc_TT m / Nat.gcd (nc_TT m) (nc_B m))) (4, 0, 1, g4, g5, g6, nc_A m, b2, b3, b4, b5)) :
    wpX_currentTop post (4, 0, 1, f4, f5, f6, nc_A m, a2, a3, a4, a5) := by
  unfold wpX_currentTop
  refine nc_cur hm hT (fun b2 b4 b3 b5 => ?_)
  exact H _ _ _ b2 b4 b3 b5
theorem nc_cb {post : Int64 → St2 → Prop} {f4 f5 f6 : Int64} {a2 a4 : Nat → Int32} {a3 a5 : Nat → Int64} {m : Nat → Nat} (hm : ∀ i, m i ≤ 9) (hT : 0 < nc_TT m)
    (H : ∀ (g4 g5 g6 : Int64) (b2 b4 : Nat → Int32) (b3 b5 : Nat → Int64), post (lN (nc_B m / Nat.gcd (nc_TT m) (nc_B m))) (4, 0, 1, g4, g5, g6, nc_A m, b2, b3, b4, b5)) :
    wpX_currentBottom post (4, 0, 1, f4, f5, f6, nc_A m, a2, a3, a4, a5) := by
  unfold wpX_currentBottom
  refine nc_cur hm hT (fun b2 b4 b3 b5 => ?_)
  exact H _ _ _ b2 b4 b3 b5
/-- what tops holds at p, source 0 -/
def nc_V (m : Nat → Nat) (p v : Nat) : Prop := v ≤ nc_B m ∧ ∀ b : Nat → Int64, b 0 = lN (nc_B m) → b 1 = 0 → b 2 = lN (nc_N2 m 0) → b 3 = lN (nc_N3 m 0) → b p = lN v
theorem nc_V0 (m : Nat → Nat) : nc_V m 0 (nc_B m) := ⟨Nat.le_refl _, fun _ h _ _ _ => h⟩
theorem nc_V1 (m : Nat → Nat) : nc_V m 1 0 := ⟨Nat.zero_le _, fun _ _ h _ _ => h⟩
theorem nc_N2_N (m : Nat → Nat) : nc_N2 m 0 = nc_N m := by
  show (m 3 + m 4 + m 5) * m 1 + m 5 * m 3 = _
  unfold nc_N
  rw [Nat.add_mul, Nat.add_mul, Nat.mul_comm (m 3) (m 1), Nat.mul_comm (m 4) (m 1), Nat.mul_comm (m 5) (m 1), Nat.mul_comm (m 5) (m 3)]
theorem nc_V2 (m : Nat → Nat) : nc_V m 2 (nc_N m) := ⟨nc_N_le, fun _ _ _ h _ => h.trans (congrArg lN (nc_N2_N m))⟩
theorem nc_vol {post : Int32 → St2 → Prop} {f4 f5 f6 : Int64} {a2 a4 : Nat → Int32} {a3 a5 : Nat → Int64} {m : Nat → Nat} (hm : ∀ i, m i ≤ 9) (hT : 0 < nc_TT m) (p v : Nat) (hp : p < 4) (hv : nc_V m p v)
    (H : ∀ (b2 b4 : Nat → Int32) (b3 b5 : Nat → Int64), post 0 (4, 0, 1, lN (nc_B m), lN (v / Nat.gcd v (nc_B m)), lN (nc_B m / Nat.gcd v (nc_B m)), nc_A m, b2, b3, b4, b5)) :
    wpX_voltage post (4, 0, 1, f4, f5, f6, nc_A m, a2, a3, a4, a5) (nI p) := by
  have hB2 := nc_B_le hm
  have hB := nc_B_pos hT
  obtain ⟨hv1, hv2⟩ := hv
  have hs : ((0 : Nat) = 0 ∧ (1 : Nat) = 1) ∨ ((0 : Nat) = 1 ∧ (1 : Nat) = 0) := by omega
  unfold wpX_voltage
  refine nc_pt p hp ?_
  refine br_f (by decide) ?_
  refine nc_solve hm hT 0 1 hs (fun b2 b4 b3 b5 hb k0 k1 k2 k3 => ?_)
  refine br_f (by decide) ⟨pk_in p 6 (by omega), pk_in 0 6 (by omega), br_t ?_ ⟨pk_in p 6 (by omega), ?_⟩⟩
  · rw [nI_clamp (by omega), hb p hp]
    exact (hb 0 (by omega)).symm
  · rw [nI_clamp (by omega), hv2 b5 k0 k1 k2 k3]
    refine nc_show (by omega) (by omega) hB ?_
    exact H b2 b4 b3 b5
theorem nc_vt {post : Int64 → St2 → Prop} {f4 f5 f6 : Int64} {a2 a4 : Nat → Int32} {a3 a5 : Nat → Int64} {m : Nat → Nat} (hm : ∀ i, m i ≤ 9) (hT : 0 < nc_TT m) (p v : Nat) (hp : p < 4) (hv : nc_V m p v)
    (H : ∀ (g4 g5 g6 : Int64) (b2 b4 : Nat → Int32) (b3 b5 : Nat → Int64), post (lN (v / Nat.gcd v (nc_B m))) (4, 0, 1, g4, g5, g6, nc_A m, b2, b3, b4, b5)) :
    wpX_voltageTop post (4, 0, 1, f4, f5, f6, nc_A m, a2, a3, a4, a5) (nI p) := by
  unfold wpX_voltageTop
  refine nc_vol hm hT p v hp hv (fun b2 b4 b3 b5 => ?_)
  exact br_t (by decide) (H _ _ _ b2 b4 b3 b5)
theorem nc_vb {post : Int64 → St2 → Prop} {f4 f5 f6 : Int64} {a2 a4 : Nat → Int32} {a3 a5 : Nat → Int64} {m : Nat → Nat} (hm : ∀ i, m i ≤ 9) (hT : 0 < nc_TT m) (p v : Nat) (hp : p < 4) (hv : nc_V m p v)
    (H : ∀ (g4 g5 g6 : Int64) (b2 b4 : Nat → Int32) (b3 b5 : Nat → Int64), post (lN (nc_B m / Nat.gcd v (nc_B m))) (4, 0, 1, g4, g5, g6, nc_A m, b2, b3, b4, b5)) :
    wpX_voltageBottom post (4, 0, 1, f4, f5, f6, nc_A m, a2, a3, a4, a5) (nI p) := by
  unfold wpX_voltageBottom
  refine nc_vol hm hT p v hp hv (fun b2 b4 b3 b5 => ?_)
  exact br_t (by decide) (H _ _ _ b2 b4 b3 b5)
theorem nc_frac (x y : Nat) : lN (x / Nat.gcd x y) * lN y = lN x * lN (y / Nat.gcd x y) := by
  rw [lN_mul, lN_mul]
  congr 1
  rw [← Nat.mul_div_assoc x (Nat.gcd_dvd_right x y), Nat.mul_comm (x / Nat.gcd x y) y, ← Nat.mul_div_assoc y (Nat.gcd_dvd_left x y), Nat.mul_comm]
/-- the checks behind the trees -/
theorem nc_331 {post : Int32 → St0 → Prop} {mc ms kc ks : Nat} {z : Int32} {f4 f5 f6 : Int64} {a2 a4 : Nat → Int32} {a3 a5 : Nat → Int64} {m : Nat → Nat} (hm : ∀ i, m i ≤ 9) (hT : 0 < nc_TT m) (H : post 1 ()) :
    wL_lawOf_331 post mc ms (lN (nc_TT m)) (lN (nc_B m)) (lN (nc_N m)) z z kc ks 4 0 1 f4 f5 f6 (nc_A m) a2 a3 a4 a5 := by
  have hT2 := nc_TT_le hm
  have hB := nc_B_pos hT
  have hs : ((0 : Nat) = 0 ∧ (1 : Nat) = 1) ∨ ((0 : Nat) = 1 ∧ (1 : Nat) = 0) := by omega
  have hs' : ((1 : Nat) = 0 ∧ (0 : Nat) = 1) ∨ ((1 : Nat) = 1 ∧ (0 : Nat) = 0) := by omega
  have hne := nc_lne hT (by omega)
  unfold wL_lawOf_331
  refine br_t rfl (br_f hne ?_)
  refine nc_rt hm hT 0 1 hs (fun g4 g5 g6 b2 b4 b3 b5 => ?_)
  refine nc_rb hm hT 0 1 hs (fun g4 g5 g6 b2 b4 b3 b5 => ?_)
  refine br_t (nc_frac _ _) ?_
  refine nc_ct hm hT (fun g4 g5 g6 b2 b4 b3 b5 => ?_)
  refine nc_cb hm hT (fun g4 g5 g6 b2 b4 b3 b5 => ?_)
  refine br_t (nc_frac _ _) ?_
  refine nc_vt hm hT 2 _ (by omega) (nc_V2 m) (fun g4 g5 g6 b2 b4 b3 b5 => ?_)
  refine nc_vb hm hT 2 _ (by omega) (nc_V2 m) (fun g4 g5 g6 b2 b4 b3 b5 => ?_)
  refine br_t (nc_frac _ _) ?_
  refine nc_vt hm hT 0 _ (by omega) (nc_V0 m) (fun g4 g5 g6 b2 b4 b3 b5 => ?_)
  refine br_t (by rw [Nat.gcd_self, Nat.div_self hB]; rfl) ?_
  refine nc_vt hm hT 1 _ (by omega) (nc_V1 m) (fun g4 g5 g6 b2 b4 b3 b5 => ?_)
  refine br_t (by rw [Nat.zero_div]; rfl) ?_
  refine nc_rt hm hT 1 0 hs' (fun g4 g5 g6 b2 b4 b3 b5 => ?_)
  refine nc_rt hm hT 0 1 hs (fun g4 g5 g6 b2 b4 b3 b5 => ?_)
  exact br_t rfl H
theorem nc_cnt_le (P : Nat) : ∀ n, nc_cnt P n ≤ n
  | 0 => Nat.le_refl 0
  | n + 1 => by
    have h := nc_cnt_le P n
    show nc_cnt P n + (if nc_get P n = n then 1 else 0) ≤ n + 1
    split
    · omega
    · omega
/-- the end of the law, the four sums known -/
theorem nc_end {post : Int32 → St0 → Prop} {mc ms kc ks : Nat} {f4 f5 f6 : Int64} {a2 a4 : Nat → Int32} {a3 a5 : Nat → Int64} {m : Nat → Nat} (hm : ∀ i, m i ≤ 9) (H : post 1 ()) (code : Int32) (n : Nat) :
    wL_lawOf_69 post mc ms code kc ks 4 0 1 f4 f5 f6 (nc_A m) a2 a3 a4 a5 (n + 1) (lN (nc_TT m)) (lN (nc_TW m)) (lN (nc_B m)) (lN (nc_N m)) (nI 8) := by
  have hT2 := nc_TT_le hm
  refine pk_le 8 8 (fun _ => ?_) (fun z => absurd z (by omega))
  refine nc_trees hm (fun s1 => ?_)
  refine br_t rfl ?_
  refine nc_tw hm (fun s2 => ?_)
  refine br_t (nc_id_tw m) ?_
  refine nc_parts hm (fun s3 => ?_)
  rcases Nat.eq_zero_or_pos (nc_TT m) with z | z
  · have hc : nc_cnt (nc_run (nc_bm m) 144) 4 ≠ 1 := fun t => by
      have := (nc_cnt_1 m).mp t
      omega
    have hl : nc_cnt (nc_run (nc_bm m) 144) 4 ≤ 4 := nc_cnt_le _ 4
    refine pk_eq (nc_cnt (nc_run (nc_bm m) 144) 4) 1 (fun t => absurd t hc) (fun _ => ?_)
    rw [z]
    exact br_t (by decide) (br_t rfl (br_t rfl H))
  · rw [(nc_cnt_1 m).mpr z]
    refine br_t rfl ?_
    have hle : ¬ lN (nc_TT m) ≤ 0 := fun t => by
      have := (lN_le (b := 0) (by omega) (by omega)).mp t
      omega
    exact br_f hle (nc_331 hm z H)
end
section
theorem nc_low {post : Int32 → Prop} {u : St0} (i : Nat) (hi : i < 6) (H : post (nI (nc_lo i))) : wpL_low post u (nI i) := by
  unfold nc_lo at H
  refine pk_le 1 i (fun z => ?_) (fun z => ?_)
  · rw [if_pos z] at H
    refine pk_le 3 i (fun y => ?_) (fun y => ?_)
    · rw [if_pos y] at H
      exact ek_v (P := post) (pk_sub (b := 3) y) H
    · rw [if_neg (by omega)] at H
      exact ek_v (P := post) (pk_sub (b := 1) z) H
  · rw [if_neg (by omega)] at H
    exact H
theorem nc_high {post : Int32 → Prop} {u : St0} (i : Nat) (hi : i < 6) (H : post (nI (nc_hi i))) : wpL_high post u (nI i) := by
  unfold nc_hi at H
  refine pk_le 1 i (fun z => ?_) (fun z => ?_)
  · rw [if_pos z] at H
    refine pk_le 3 i (fun y => ?_) (fun y => ?_)
    · rw [if_pos y] at H
      exact H
    · rw [if_neg (by omega)] at H
      exact H
  · rw [if_neg (by omega)] at H
    exact H
/-- a weight of the code -/
def nc_w (code : Int32) (k : Nat) : Int32 := ((code >>> ((4 * nI k) &&& 31)) &&& 15) - ((code >>> ((4 * nI k) &&& 31)) &&& 15) / 10 * 10
def nc_m (code : Int32) (k : Nat) : Nat := (nc_w code k).toNatClampNeg
theorem nc_w_ex (code : Int32) (k : Nat) : ∃ j, j ≤ 9 ∧ nc_w code k = nI j := by
  obtain ⟨j, hj, e⟩ := pk_andE (code >>> ((4 * nI k) &&& 31)) (m := 15) 4 (by decide)
  refine ⟨j % 10, by omega, ?_⟩
  unfold nc_w
  rw [e]
  exact pk_rem (d := 10) (by omega) (by omega) (by omega)
theorem nc_m_le (code : Int32) : ∀ k, nc_m code k ≤ 9 := by
  intro k
  obtain ⟨j, hj, e⟩ := nc_w_ex code k
  unfold nc_m
  rw [e, nI_clamp (by omega)]
  exact hj
theorem nc_w_m (code : Int32) (k : Nat) : nc_w code k = nI (nc_m code k) := by
  obtain ⟨j, hj, e⟩ := nc_w_ex code k
  unfold nc_m
  rw [e, nI_clamp (by omega)]
theorem nc_part {post : Int32 → Prop} {u : St0} (code : Int32) (k : Nat) (H : post (nI (nc_m code k))) : wpL_part post u code (nI k) := by
  rw [← nc_w_m] at H
  exact ⟨by decide, H⟩
/-- groups -/
def nc_g4 (x y l : Int32) : Nat → Int32
  | 0 => l
  | k + 1 => if ((nc_g4 x y l k >>> ((2 * nI k) &&& 31)) &&& 3) = y then (nc_g4 x y l k &&& (((3 : Int32) <<< ((2 * nI k) &&& 31)) ^^^ (-1))) ||| (x <<< ((2 * nI k) &&& 31)) else nc_g4 x y l k
def nc_bit (s k : Nat) : Prop := ((nI s >>> (nI k &&& 31)) &&& 1) = 1
def nc_g (s : Nat) : Nat → Nat → Int32 → Int32
  | 0, _, l => l
  | n + 1, i, l => if ((nI s >>> (nI i &&& 31)) &&& 1) = 1 then (if ((l >>> ((2 * nI (nc_lo i)) &&& 31)) &&& 3) = ((l >>> ((2 * nI (nc_hi i)) &&& 31)) &&& 3) then -1 else nc_g s n (i + 1) (nc_g4 ((l >>> ((2 * nI (nc_lo i)) &&& 31)) &&& 3) ((l >>> ((2 * nI (nc_hi i)) &&& 31)) &&& 3) l 4)) else nc_g s n (i + 1) l
def nc_grp (s : Nat) : Int32 := nc_g s 6 0 228
theorem nc_63 {post : Int32 → Prop} {J : Int32 → Int32 → Prop} {x0 x2 x y l : Int32} (H : J (nc_g4 x y l 4) (x2 + 1)) : ∃ fu, wL_groups_63 post J x0 x2 x y fu l 0 := by
  refine pk_loop (σ := Unit) (fun n k _ => wL_groups_63 post J x0 x2 x y n (nc_g4 x y l k) (nI k)) (fun _ _ => True) 4 0 () (by omega) trivial ?_ ?_
  · intro n _ _
    exact pk_le 4 4 (fun _ => nm_e H) (fun z => absurd z (by omega))
  · intro n k _ hk _ hw
    have hw' := hw () trivial
    refine pk_le 4 k (fun z => absurd z (by omega)) (fun _ => br_c (fun z => nm_r ?_ (nm_r (nI_1 k) hw')) (fun z => nm_r (nI_1 k) ?_))
    · symm
      show (if _ then _ else _) = _
      rw [if_pos z]
    · have e : nc_g4 x y l (k + 1) = nc_g4 x y l k := by
        show (if _ then _ else _) = _
        rw [if_neg z]
      rw [e] at hw'
      exact hw'
theorem nc_6 {post : Int32 → Prop} (s : Nat) : ∀ n i l, i + n = 6 → post (nc_g s n i l) → wL_groups_6 post (nI s) (n + 1) l (nI i) := by
  intro n
  induction n with
  | zero =>
    intro i l hi H
    exact pk_le 6 i (fun _ => H) (fun z => absurd z (by omega))
  | succ n ih =>
    intro i l hi H
    unfold nc_g at H
    refine pk_le 6 i (fun z => absurd z (by omega)) (fun _ => br_c (fun z => ?_) (fun z => ?_))
    · rw [if_pos z] at H
      refine nc_low i (by omega) ?_
      refine nc_high i (by omega) ?_
      refine nm_e (nm_e (br_c (fun y => ?_) (fun y => ?_)))
      · rw [if_pos y] at H
        exact H
      · rw [if_neg y] at H
        refine nc_63 ?_
        rw [nI_1]
        exact ih (i + 1) _ (by omega) H
    · rw [if_neg z] at H
      exact nm_r (nI_1 i) (ih (i + 1) l (by omega) H)
theorem nc_groups {post : Int32 → Prop} {u : St0} (s : Nat) (H : post (nc_grp s)) : wpL_groups post u (nI s) := ⟨7, nc_6 s 6 0 228 rfl H⟩
/-- size, weight -/
def nc_sz (s : Nat) : Nat → Int32
  | 0 => 0
  | k + 1 => nc_sz s k + ((nI s >>> (nI k &&& 31)) &&& 1)
def nc_wt (m : Nat → Nat) (s : Nat) : Nat → Int64
  | 0 => 1
  | k + 1 => if s.testBit k = true then nc_wt m s k * lN (m k) else nc_wt m s k
theorem nc_bit_tab : ∀ s, s < 64 → ∀ k, k < 6 → (((nI s >>> (nI k &&& 31)) &&& 1) = 1 ↔ s.testBit k = true) := by decide +kernel
def nc_cT (s : Nat) : Bool := decide (nc_sz s 6 = 3) && !decide (nc_grp s < 0)
def nc_cW (s : Nat) : Bool := nc_cT s && decide (((nI s >>> ((5 : Int32) &&& 31)) &&& 1) = 1)
def nc_cA (s : Nat) : Bool := decide (nc_sz s 6 = 2) && (!decide (nc_grp s < 0) && !decide ((nc_grp s &&& 3) = ((nc_grp s >>> ((2 : Int32) &&& 31)) &&& 3)))
def nc_cN (s : Nat) : Bool := nc_cA s && decide (((nc_grp s >>> ((4 : Int32) &&& 31)) &&& 3) = (nc_grp s &&& 3))
def nc_ad (c : Bool) (x w : Int64) : Int64 := if c = true then x + w else x
def nc_acc (c : Nat → Bool) (wt : Nat → Int64) : Nat → Int64
  | 0 => 0
  | s + 1 => nc_ad (c s) (nc_acc c wt s) (wt s)
theorem nc_acc_l (c : Nat → Bool) (wt : Nat → Int64) (n : Nat) : nc_acc c wt n = ((List.range n).filter c).foldl (fun a s => a + wt s) 0 := by
  induction n with
  | zero => rfl
  | succ n ih =>
    show nc_ad (c n) (nc_acc c wt n) (wt n) = _
    rw [List.range_succ, List.filter_append, List.foldl_append, ← ih]
    unfold nc_ad
    cases h : c n
    · simp [h]
    · simp [h]
theorem nc_lT : (List.range 64).filter nc_cT = [11, 13, 14, 19, 21, 22, 26, 28, 35, 37, 38, 41, 44, 49, 50, 56] := by decide +kernel
theorem nc_lW : (List.range 64).filter nc_cW = [35, 37, 38, 41, 44, 49, 50, 56] := by decide +kernel
theorem nc_lA : (List.range 64).filter nc_cA = [10, 12, 18, 20, 34, 36, 40, 48] := by decide +kernel
theorem nc_lN : (List.range 64).filter nc_cN = [10, 18, 34, 40] := by decide +kernel
end
section
theorem nc_233 {post : Int32 → St0 → Prop} {mc ms : Nat} {J69 J79 : Int64 → Int64 → Int64 → Int64 → Int32 → Prop} {x0 x10 x11 x16 z0 : Int32} {x2 x4 x6 x8 x14 : Int64} {kc ks : Nat} {f1 f2 f3 : Int32} {f4 f5 f6 : Int64} {a1 a2 a4 : Nat → Int32} {a3 a5 : Nat → Int64} (c : Bool) (hz : z0 = if c = true then 1 else 0)
    (H : J79 x2 x4 (nc_ad c x6 x14) (nc_ad (c && decide (((x16 >>> ((4 : Int32) &&& 31)) &&& 3) = (x16 &&& 3))) x8 x14) (x11 + 1)) :
    wL_lawOf_233 post mc ms J69 J79 x0 x2 x4 x6 x8 x10 x11 x14 x16 z0 kc ks f1 f2 f3 f4 f5 f6 a1 a2 a3 a4 a5 := by
  subst hz
  cases c
  · exact br_t rfl (br_t rfl (nm_e H))
  · refine br_f (by decide) (nm_e (br_f (by decide) (br_c (fun z => nm_e (nm_e ?_)) (fun z => nm_e ?_))))
    · rw [decide_eq_true z] at H
      exact H
    · rw [decide_eq_false z] at H
      exact H
theorem nc_204 {post : Int32 → St0 → Prop} {mc ms : Nat} {J69 J79 : Int64 → Int64 → Int64 → Int64 → Int32 → Prop} {x0 x10 x11 x13 x16 : Int32} {x2 x4 x6 x8 x14 : Int64} {kc ks : Nat} {f1 f2 f3 : Int32} {f4 f5 f6 : Int64} {a1 a2 a4 : Nat → Int32} {a3 a5 : Nat → Int64}
    (H : J79 x2 x4 (nc_ad (decide (x13 = 2) && (!decide (x16 < 0) && !decide ((x16 &&& 3) = ((x16 >>> ((2 : Int32) &&& 31)) &&& 3)))) x6 x14) (nc_ad ((decide (x13 = 2) && (!decide (x16 < 0) && !decide ((x16 &&& 3) = ((x16 >>> ((2 : Int32) &&& 31)) &&& 3)))) && decide (((x16 >>> ((4 : Int32) &&& 31)) &&& 3) = (x16 &&& 3))) x8 x14) (x11 + 1)) :
    wL_lawOf_204 post mc ms J69 J79 x0 x2 x4 x6 x8 x10 x11 x13 x14 x16 kc ks f1 f2 f3 f4 f5 f6 a1 a2 a3 a4 a5 := by
  refine br_c (fun h1 => br_c (fun h2 => ?_) (fun h2 => br_c (fun h3 => ?_) (fun h3 => ?_))) (fun h1 => ?_)
  · rw [decide_eq_true h1, decide_eq_true h2] at H
    exact nc_233 false rfl H
  · rw [decide_eq_true h1, decide_eq_false h2, decide_eq_true h3] at H
    exact nc_233 false rfl H
  · rw [decide_eq_true h1, decide_eq_false h2, decide_eq_false h3] at H
    exact nc_233 true rfl H
  · rw [decide_eq_false h1] at H
    exact nc_233 false rfl H
theorem nc_176 {post : Int32 → St0 → Prop} {mc ms : Nat} {J69 J79 : Int64 → Int64 → Int64 → Int64 → Int32 → Prop} {x0 x10 x11 x12 x13 x16 : Int32} {x2 x4 x6 x8 x14 : Int64} {kc ks : Nat} {f1 f2 f3 : Int32} {f4 f5 f6 : Int64} {a1 a2 a4 : Nat → Int32} {a3 a5 : Nat → Int64}
    (H : J79 x2 (nc_ad ((decide (x13 = 3) && !decide (x16 < 0)) && decide (((x12 >>> ((5 : Int32) &&& 31)) &&& 1) = 1)) x4 x14) (nc_ad (decide (x13 = 2) && (!decide (x16 < 0) && !decide ((x16 &&& 3) = ((x16 >>> ((2 : Int32) &&& 31)) &&& 3)))) x6 x14) (nc_ad ((decide (x13 = 2) && (!decide (x16 < 0) && !decide ((x16 &&& 3) = ((x16 >>> ((2 : Int32) &&& 31)) &&& 3)))) && decide (((x16 >>> ((4 : Int32) &&& 31)) &&& 3) = (x16 &&& 3))) x8 x14) (x11 + 1)) :
    wL_lawOf_176 post mc ms J69 J79 x0 x2 x4 x6 x8 x10 x11 x12 x13 x14 x16 kc ks f1 f2 f3 f4 f5 f6 a1 a2 a3 a4 a5 := by
  refine br_c (fun h1 => br_c (fun h2 => nc_204 ?_) (fun h2 => br_c (fun h3 => nm_e (nc_204 ?_)) (fun h3 => nc_204 ?_))) (fun h1 => nc_204 ?_)
  · rw [decide_eq_true h1, decide_eq_true h2] at H
    rw [decide_eq_true h2]
    exact H
  · rw [decide_eq_true h1, decide_eq_false h2, decide_eq_true h3] at H
    rw [decide_eq_false h2]
    exact H
  · rw [decide_eq_true h1, decide_eq_false h2, decide_eq_false h3] at H
    rw [decide_eq_false h2]
    exact H
  · rw [decide_eq_false h1] at H
    exact H
theorem nc_105 {post : Int32 → St0 → Prop} {mc ms : Nat} {J69 J79 : Int64 → Int64 → Int64 → Int64 → Int32 → Prop} {code x10 x11 : Int32} {x2 x4 x6 x8 : Int64} {kc ks : Nat} {f1 f2 f3 : Int32} {f4 f5 f6 : Int64} {a1 a2 a4 : Nat → Int32} {a3 a5 : Nat → Int64} (s : Nat) (hs : s < 64)
    (H : J79 (nc_ad (nc_cT s) x2 (nc_wt (nc_m code) s 6)) (nc_ad (nc_cW s) x4 (nc_wt (nc_m code) s 6)) (nc_ad (nc_cA s) x6 (nc_wt (nc_m code) s 6)) (nc_ad (nc_cN s) x8 (nc_wt (nc_m code) s 6)) (x11 + 1)) :
    ∃ fu, wL_lawOf_105 post mc ms J69 J79 code x2 x4 x6 x8 x10 x11 (nI s) kc ks f1 f2 f3 f4 f5 f6 a1 a2 a3 a4 a5 fu 0 1 0 := by
  refine pk_loop (σ := Unit) (fun n k _ => wL_lawOf_105 post mc ms J69 J79 code x2 x4 x6 x8 x10 x11 (nI s) kc ks f1 f2 f3 f4 f5 f6 a1 a2 a3 a4 a5 n (nc_sz s k) (nc_wt (nc_m code) s k) (nI k)) (fun _ _ => True) 6 0 () (by omega) trivial ?_ ?_
  · intro n _ _
    refine pk_le 6 6 (fun _ => ?_) (fun z => absurd z (by omega))
    refine nc_groups s ?_
    unfold nc_cN nc_cW nc_cA nc_cT at H
    refine br_c (fun h1 => br_c (fun h2 => nc_176 ?_) (fun h2 => nm_e (nc_176 ?_))) (fun h1 => nc_176 ?_)
    · rw [decide_eq_true h1, decide_eq_true h2] at H
      rw [decide_eq_true h1, decide_eq_true h2]
      exact H
    · rw [decide_eq_true h1, decide_eq_false h2] at H
      rw [decide_eq_true h1, decide_eq_false h2]
      exact H
    · rw [decide_eq_false h1] at H
      rw [decide_eq_false h1]
      exact H
  · intro n k _ hk _ hw
    have hw' := hw () trivial
    have hb := nc_bit_tab s hs k hk
    refine pk_le 6 k (fun z => absurd z (by omega)) (fun _ => nm_r (e' := nc_sz s (k + 1)) rfl (br_c (fun z => ?_) (fun z => nm_r (nI_1 k) ?_)))
    · refine nc_part code k (nm_r (e' := nc_wt (nc_m code) s (k + 1)) ?_ (nm_r (nI_1 k) hw'))
      have hm := nc_m_le code k
      rw [nI_l (by omega)]
      symm
      show (if _ then _ else _) = _
      rw [if_pos (hb.mp z)]
    · have e : nc_wt (nc_m code) s (k + 1) = nc_wt (nc_m code) s k := by
        show (if _ then _ else _) = _
        rw [if_neg (fun t => z (hb.mpr t))]
      rw [e] at hw'
      exact hw'
def nc_W6 (code : Int32) : Nat → Int64 := fun s => nc_wt (nc_m code) s 6
theorem nc_79 {post : Int32 → St0 → Prop} {mc ms : Nat} {J69 : Int64 → Int64 → Int64 → Int64 → Int32 → Prop} {code : Int32} {kc ks : Nat} {f1 f2 f3 : Int32} {f4 f5 f6 : Int64} {a1 a2 a4 : Nat → Int32} {a3 a5 : Nat → Int64} (i : Nat) (hi : i < 8)
    (H : J69 (nc_acc nc_cT (nc_W6 code) (8 * (i + 1))) (nc_acc nc_cW (nc_W6 code) (8 * (i + 1))) (nc_acc nc_cA (nc_W6 code) (8 * (i + 1))) (nc_acc nc_cN (nc_W6 code) (8 * (i + 1))) (nI (i + 1))) :
    ∃ fu, wL_lawOf_79 post mc ms J69 code (nI i) kc ks f1 f2 f3 f4 f5 f6 a1 a2 a3 a4 a5 fu (nc_acc nc_cT (nc_W6 code) (8 * i)) (nc_acc nc_cW (nc_W6 code) (8 * i)) (nc_acc nc_cA (nc_W6 code) (8 * i)) (nc_acc nc_cN (nc_W6 code) (8 * i)) 0 := by
  refine pk_loop (σ := Unit) (fun n j _ => wL_lawOf_79 post mc ms J69 code (nI i) kc ks f1 f2 f3 f4 f5 f6 a1 a2 a3 a4 a5 n (nc_acc nc_cT (nc_W6 code) (8 * i + j)) (nc_acc nc_cW (nc_W6 code) (8 * i + j)) (nc_acc nc_cA (nc_W6 code) (8 * i + j)) (nc_acc nc_cN (nc_W6 code) (8 * i + j)) (nI j)) (fun _ _ => True) 8 0 () (by omega) trivial ?_ ?_
  · intro n _ _
    exact pk_le 8 8 (fun _ => nm_r (nI_1 i) H) (fun z => absurd z (by omega))
  · intro n j _ hj _ hw
    refine pk_le 8 j (fun z => absurd z (by omega)) (fun _ => nm_r (nc_ix 8 i j) (nc_105 (8 * i + j) (by omega) ?_))
    rw [nI_1]
    exact hw () trivial
theorem nc_sT (code : Int32) : nc_acc nc_cT (nc_W6 code) 64 = lN (nc_TT (nc_m code)) := by
  rw [nc_acc_l, nc_lT]
  generalize hm : nc_m code = m
  unfold nc_W6
  rw [hm]
  show 0 + 1 * lN (m 0) * lN (m 1) * lN (m 3) + 1 * lN (m 0) * lN (m 2) * lN (m 3) + 1 * lN (m 1) * lN (m 2) * lN (m 3) + 1 * lN (m 0) * lN (m 1) * lN (m 4) + 1 * lN (m 0) * lN (m 2) * lN (m 4) + 1 * lN (m 1) * lN (m 2) * lN (m 4) + 1 * lN (m 1) * lN (m 3) * lN (m 4) + 1 * lN (m 2) * lN (m 3) * lN (m 4) + 1 * lN (m 0) * lN (m 1) * lN (m 5) + 1 * lN (m 0) * lN (m 2) * lN (m 5) + 1 * lN (m 1) * lN (m 2) * lN (m 5) + 1 * lN (m 0) * lN (m 3) * lN (m 5) + 1 * lN (m 2) * lN (m 3) * lN (m 5) + 1 * lN (m 0) * lN (m 4) * lN (m 5) + 1 * lN (m 1) * lN (m 4) * lN (m 5) + 1 * lN (m 3) * lN (m 4) * lN (m 5) = _
  unfold nc_TT
  simp only [← lN_add, ← lN_mul]
  generalize lN (m 0) = x0
  generalize lN (m 1) = x1
  generalize lN (m 2) = x2
  generalize lN (m 3) = x3
  generalize lN (m 4) = x4
  generalize lN (m 5) = x5
  grind
theorem nc_sW (code : Int32) : nc_acc nc_cW (nc_W6 code) 64 = lN (nc_TW (nc_m code)) := by
  rw [nc_acc_l, nc_lW]
  generalize hm : nc_m code = m
  unfold nc_W6
  rw [hm]
  show 0 + 1 * lN (m 0) * lN (m 1) * lN (m 5) + 1 * lN (m 0) * lN (m 2) * lN (m 5) + 1 * lN (m 1) * lN (m 2) * lN (m 5) + 1 * lN (m 0) * lN (m 3) * lN (m 5) + 1 * lN (m 2) * lN (m 3) * lN (m 5) + 1 * lN (m 0) * lN (m 4) * lN (m 5) + 1 * lN (m 1) * lN (m 4) * lN (m 5) + 1 * lN (m 3) * lN (m 4) * lN (m 5) = _
  unfold nc_TW
  simp only [← lN_add, ← lN_mul]
  generalize lN (m 0) = x0
  generalize lN (m 1) = x1
  generalize lN (m 2) = x2
  generalize lN (m 3) = x3
  generalize lN (m 4) = x4
  generalize lN (m 5) = x5
  grind
theorem nc_sA (code : Int32) : nc_acc nc_cA (nc_W6 code) 64 = lN (nc_B (nc_m code)) := by
  rw [nc_acc_l, nc_lA]
  generalize hm : nc_m code = m
  unfold nc_W6
  rw [hm]
  show 0 + 1 * lN (m 1) * lN (m 3) + 1 * lN (m 2) * lN (m 3) + 1 * lN (m 1) * lN (m 4) + 1 * lN (m 2) * lN (m 4) + 1 * lN (m 1) * lN (m 5) + 1 * lN (m 2) * lN (m 5) + 1 * lN (m 3) * lN (m 5) + 1 * lN (m 4) * lN (m 5) = _
  unfold nc_B
  simp only [← lN_add, ← lN_mul]
  generalize lN (m 1) = x1
  generalize lN (m 2) = x2
  generalize lN (m 3) = x3
  generalize lN (m 4) = x4
  generalize lN (m 5) = x5
  grind
theorem nc_sN (code : Int32) : nc_acc nc_cN (nc_W6 code) 64 = lN (nc_N (nc_m code)) := by
  rw [nc_acc_l, nc_lN]
  generalize hm : nc_m code = m
  unfold nc_W6
  rw [hm]
  show 0 + 1 * lN (m 1) * lN (m 3) + 1 * lN (m 1) * lN (m 4) + 1 * lN (m 1) * lN (m 5) + 1 * lN (m 3) * lN (m 5) = _
  unfold nc_N
  simp only [← lN_add, ← lN_mul]
  generalize lN (m 1) = x1
  generalize lN (m 3) = x3
  generalize lN (m 4) = x4
  generalize lN (m 5) = x5
  grind
theorem nc_69 {post : Int32 → St0 → Prop} {mc ms : Nat} {code : Int32} {kc ks : Nat} {f4 f5 f6 : Int64} {a2 a4 : Nat → Int32} {a3 a5 : Nat → Int64} (H : post 1 ()) :
    ∃ fu, wL_lawOf_69 post mc ms code kc ks 4 0 1 f4 f5 f6 (nc_A (nc_m code)) a2 a3 a4 a5 fu 0 0 0 0 0 := by
  refine pk_loop (σ := Unit) (fun n i _ => wL_lawOf_69 post mc ms code kc ks 4 0 1 f4 f5 f6 (nc_A (nc_m code)) a2 a3 a4 a5 n (nc_acc nc_cT (nc_W6 code) (8 * i)) (nc_acc nc_cW (nc_W6 code) (8 * i)) (nc_acc nc_cA (nc_W6 code) (8 * i)) (nc_acc nc_cN (nc_W6 code) (8 * i)) (nI i)) (fun _ _ => True) 8 0 () (by omega) trivial ?_ ?_
  · intro n _ _
    show wL_lawOf_69 post mc ms code kc ks 4 0 1 f4 f5 f6 (nc_A (nc_m code)) a2 a3 a4 a5 (n + 1) (nc_acc nc_cT (nc_W6 code) 64) (nc_acc nc_cW (nc_W6 code) 64) (nc_acc nc_cA (nc_W6 code) 64) (nc_acc nc_cN (nc_W6 code) 64) (nI 8)
    rw [nc_sT, nc_sW, nc_sA, nc_sN]
    exact nc_end (nc_m_le code) H code n
  · intro n i _ hi _ hw
    exact pk_le 8 i (fun z => absurd z (by omega)) (fun _ => nc_79 i hi (hw () trivial))
/-- the six joins -/
theorem nc_join {post : Int32 → St2 → Prop} {f2 f3 : Int32} {f4 f5 f6 : Int64} {a1 a2 a4 : Nat → Int32} {a3 a5 : Nat → Int64} (p q v : Nat) (hp : p < 4) (hq : q < 4) (hpq : p ≠ q) (hv : v ≤ 9)
    (H : post (a1 (6 * p + q)) (4, f2, f3, f4, f5, f6, upd (upd a1 (6 * p + q) (nI v)) (6 * q + p) (nI v), a2, a3, a4, a5)) :
    wpX_join post (4, f2, f3, f4, f5, f6, a1, a2, a3, a4, a5) (nI p) (nI q) (nI v) := by
  have e1 : (6 : Int32) * nI p + nI q = nI (6 * p + q) := nc_ix 6 p q
  have e2 : (6 : Int32) * nI q + nI p = nI (6 * q + p) := nc_ix 6 q p
  have c1 : ((6 : Int32) * nI p + nI q).toNatClampNeg = 6 * p + q := pk_cl _ e1
  have c2 : ((6 : Int32) * nI q + nI p).toNatClampNeg = 6 * q + p := pk_cl _ e2
  unfold wpX_join
  refine nc_pt p hp ?_
  refine br_f (by decide) ?_
  refine nc_pt q hq ?_
  refine br_f (by decide) ?_
  refine pk_eq p q (fun z => absurd z hpq) (fun _ => ?_)
  refine pk_lt v 0 (fun z => absurd z (by omega)) (fun _ => ?_)
  refine pk_le v 9 (fun _ => ?_) (fun z => absurd z (by omega))
  refine ⟨pk_in (6 * p + q) 36 (by omega) e1, nm_r (congrArg a1 c1) ?_⟩
  refine pk_eq p q (fun z => absurd z hpq) (fun _ => ?_)
  refine ⟨pk_in (6 * p + q) 36 (by omega) e1, nm_r (congrArg (fun k => upd a1 k (nI v)) c1) ⟨pk_in (6 * q + p) 36 (by omega) e2, nm_r (congrArg (fun k => upd _ k (nI v)) c2) ?_⟩⟩
  exact H
theorem nc_11 {post : Int32 → St0 → Prop} {mc ms : Nat} {code : Int32} {kc ks : Nat} {f4 f5 f6 : Int64} {a2 a4 : Nat → Int32} {a3 a5 : Nat → Int64} (H : post 1 ()) :
    ∃ fu, wL_lawOf_11 post mc ms code kc ks fu 0 4 0 1 f4 f5 f6 (fun _ => 0) a2 a3 a4 a5 := by
  refine pk_loop (fun n i s => wL_lawOf_11 post mc ms code kc ks n (nI i) 4 0 1 f4 f5 f6 s a2 a3 a4 a5) (fun i s => s = nc_Ai (nc_m code) i) 6 0 (fun _ => 0) (by omega) (nc_Ai_0 _).symm ?_ ?_
  · intro n s h
    subst h
    exact pk_le 6 6 (fun _ => nc_69 H) (fun z => absurd z (by omega))
  · intro n i s hi h hw
    subst h
    obtain ⟨_, _, h1, h2, h3⟩ := nc_e_at i hi
    refine pk_le 6 i (fun z => absurd z (by omega)) (fun _ => ?_)
    refine nc_low i hi ?_
    refine nc_high i hi ?_
    refine nc_part code i ?_
    refine nc_join (nc_lo i) (nc_hi i) (nc_m code i) h1 h2 h3 (nc_m_le code i) ?_
    refine br_t (nc_Ai_at _ hi) (nm_r (nI_1 i) ?_)
    rw [nc_Ai_s _ hi]
    exact hw _ rfl
end
section
theorem nc_law (code : Int32) : ∃ mc_3 ms_4 : Nat, 0 + mc_3 ≤ 92 ∧ 0 + ms_4 ≤ 1456 ∧ (wpL_lawOf (fun r_2 _ => r_2 = 1) mc_3 ms_4 () code) := by
  refine ⟨92, 1456, by omega, by omega, by omega, by omega, 91, 1445, by omega, by omega, ?_⟩
  refine ⟨by omega, by omega, by omega, by omega, by omega, by omega, by omega, by omega, by omega, by omega, br_t (by decide) (br_t (by decide) ?_)⟩
  exact nc_11 rfl
theorem i_vc (xs : Nat → Int32) (L : Nat) (hL : L ≤ 1) : wpL_law (fun r => r = 1) L xs := by
  unfold wpL_law
  refine pk_le L 0 (fun z => nc_law 0) (fun z => ⟨pk_in 0 L z, nc_law _⟩)
end
