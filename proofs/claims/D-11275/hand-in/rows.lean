section
/-! ===== 01: pure rows: cells, blocks of 24 cells, one row's share ===== -/
/-- one row's share in the cell j of its node (features 0 and 2 are 0, feature 1 is P) -/
def ht_c (P : Nat) (v : Int32) (j : Nat) : Int32 := if j = 0 ∨ j = 8 + P ∨ j = 16 then v else 0
/-- the first i cells of node k's block hold g, all else is as in a -/
def ht_blk (k i : Nat) (g a : Nat → Int32) : Nat → Int32 := fun j => if k * 24 ≤ j ∧ j < k * 24 + i then g (j - k * 24) else a j
theorem ht_blk0 (k : Nat) (g a : Nat → Int32) : ht_blk k 0 g a = a := by
  funext j
  unfold ht_blk
  rw [if_neg (by omega)]
theorem ht_blkS (k i : Nat) (g a : Nat → Int32) : upd (ht_blk k i g a) (k * 24 + i) (g i) = ht_blk k (i + 1) g a := by
  funext j
  by_cases h : j = k * 24 + i
  · subst h
    rw [pk_us]
    unfold ht_blk
    rw [if_pos (by omega), Nat.add_sub_cancel_left]
  · rw [pk_un h]
    unfold ht_blk
    by_cases h2 : k * 24 ≤ j ∧ j < k * 24 + i
    · rw [if_pos h2, if_pos (by omega)]
    · rw [if_neg h2, if_neg (by omega)]
theorem ht_blk_in {k i j : Nat} {g a : Nat → Int32} (h : j < i) : ht_blk k i g a (k * 24 + j) = g j := by
  unfold ht_blk
  rw [if_pos (by omega), Nat.add_sub_cancel_left]
theorem ht_blk_out {k i j : Nat} {g a : Nat → Int32} (h : j < k * 24 ∨ k * 24 + i ≤ j) : ht_blk k i g a j = a j := by
  unfold ht_blk
  rw [if_neg (by omega)]
/-- a row is added to node k's three cells -/
def ht_add (k P : Nat) (v : Int32) (a : Nat → Int32) : Nat → Int32 := fun j => if j = k * 24 ∨ j = k * 24 + 8 + P ∨ j = k * 24 + 16 then a j + v else a j
def ht_u (c : Nat) (v : Int32) (a : Nat → Int32) : Nat → Int32 := upd a c (a c + v)
theorem ht_add3 {k P : Nat} (hP : P < 8) (v : Int32) (a : Nat → Int32) : ht_u (k * 24 + 16) v (ht_u (k * 24 + 8 + P) v (ht_u (k * 24) v a)) = ht_add k P v a := by
  have n1 : k * 24 + 8 + P ≠ k * 24 := by omega
  have n2 : k * 24 + 16 ≠ k * 24 := by omega
  have n3 : k * 24 + 16 ≠ k * 24 + 8 + P := by omega
  funext j
  unfold ht_add ht_u
  by_cases h0 : j = k * 24
  · rw [h0, pk_un n2.symm, pk_un n1.symm, pk_us, if_pos (Or.inl rfl)]
  · by_cases h1 : j = k * 24 + 8 + P
    · rw [h1, pk_un n3.symm, pk_us, pk_un n1, if_pos (Or.inr (Or.inl rfl))]
    · by_cases h2 : j = k * 24 + 16
      · rw [h2, pk_us, pk_un n3, pk_un n2, if_pos (Or.inr (Or.inr rfl))]
      · rw [pk_un h2, pk_un h1, pk_un h0, if_neg (by omega)]
def ht_ad (b : Bool) (k P : Nat) (v : Int32) (a : Nat → Int32) : Nat → Int32 := bif b then ht_add k P v a else a
theorem ht_add_in {k P : Nat} {v : Int32} {a : Nat → Int32} (j : Nat) : ht_add k P v a (k * 24 + j) = a (k * 24 + j) + ht_c P v j := by
  unfold ht_add ht_c
  by_cases h : j = 0 ∨ j = 8 + P ∨ j = 16
  · rw [if_pos (by omega), if_pos h]
  · rw [if_neg (by omega), if_neg h, Int32.add_zero]
theorem ht_add_out {k P j : Nat} {v : Int32} {a : Nat → Int32} (hP : P < 8) (h : j < k * 24 ∨ k * 24 + 24 ≤ j) : ht_add k P v a j = a j := by
  unfold ht_add
  rw [if_neg (by omega)]
/-! indices -/
theorem ht_ix (k i : Nat) : nI k * 24 + nI i = nI (k * 24 + i) := by
  show nI k * nI 24 + nI i = _
  rw [pk_mul, nI_add]
theorem ht_ix3 (k f i : Nat) : nI k * 24 + nI f * 8 + nI i = nI (k * 24 + f * 8 + i) := by
  show nI k * nI 24 + nI f * nI 8 + nI i = _
  rw [pk_mul, pk_mul, nI_add, nI_add]
theorem ht_at (k : Nat) : (0 : Int32) * 7 + nI k = nI k := by
  rw [Int32.zero_mul, Int32.zero_add]
theorem ht_ft : ∀ P, P < 8 → ∀ f, f < 3 → (nI (8 * P) >>> ((3 * nI f) &&& 31)) &&& 7 = nI (if f = 1 then P else 0) := by decide +kernel
theorem ht_sh : ∀ P, P < 8 → (nI P <<< ((3 : Int32) &&& 31)) &&& 511 = nI (8 * P) := by decide +kernel
/-! running counts: two rows, one row -/
def ht_G2 (P Q f b : Nat) : Nat := if f = 1 then (if P < b then 1 else 0) + (if Q < b then 1 else 0) else if b = 0 then 0 else 2
def ht_G1 (P f b : Nat) : Nat := if f = 1 then (if P < b then 1 else 0) else if b = 0 then 0 else 1
theorem ht_G2s : ∀ P, P < 8 → ∀ Q, Q < 8 → ∀ f, f < 3 → ∀ b, b < 7 → nI (ht_G2 P Q f b) + (ht_c P 1 (f * 8 + b) + ht_c Q 1 (f * 8 + b)) = nI (ht_G2 P Q f (b + 1)) := by decide +kernel
theorem ht_G1s : ∀ P, P < 8 → ∀ f, f < 3 → ∀ b, b < 7 → nI (ht_G1 P f b) + ht_c P 1 (f * 8 + b) = nI (ht_G1 P f (b + 1)) := by decide +kernel
theorem ht_no2 : ∀ M, M < 13 → ∀ G, G < 3 → (G < M ∨ 2 < M + G) → ((nI G).toInt64 < (nI M).toInt64 ∨ ¬ (nI M).toInt64 ≤ (nI 2).toInt64 - (nI G).toInt64) := by decide +kernel
theorem ht_no1 : ∀ M, M < 13 → ∀ G, G < 2 → (G < M ∨ 1 < M + G) → ((nI G).toInt64 < (nI M).toInt64 ∨ ¬ (nI M).toInt64 ≤ (nI 1).toInt64 - (nI G).toInt64) := by decide +kernel
/-- one row: no split, whatever the leaf size -/
theorem ht_nc1 {M : Nat} (h1 : 1 ≤ M) (h12 : M ≤ 12) (P f b : Nat) : (nI (ht_G1 P f b)).toInt64 < (nI M).toInt64 ∨ ¬ (nI M).toInt64 ≤ (nI 1).toInt64 - (nI (ht_G1 P f b)).toInt64 := by
  have h : ht_G1 P f b < 2 := by
    unfold ht_G1
    repeat' split
    all_goals omega
  exact ht_no1 M (by omega) _ h (by omega)
theorem ht_G2le (P Q f b : Nat) : ht_G2 P Q f b < 3 := by
  unfold ht_G2
  repeat' split
  all_goals omega
/-- two rows: no split if the leaf size is 2 or more, or the rows are alike, or by the other features -/
theorem ht_nc2 {M : Nat} (h1 : 1 ≤ M) (h12 : M ≤ 12) (P Q f b : Nat) (h : 2 ≤ M ∨ P = Q ∨ f ≠ 1) : (nI (ht_G2 P Q f b)).toInt64 < (nI M).toInt64 ∨ ¬ (nI M).toInt64 ≤ (nI 2).toInt64 - (nI (ht_G2 P Q f b)).toInt64 := by
  have hl := ht_G2le P Q f b
  refine ht_no2 M (by omega) _ hl ?_
  rcases h with h | h | h
  · omega
  · subst h
    unfold ht_G2
    repeat' split
    all_goals omega
  · unfold ht_G2
    rw [if_neg h]
    split
    all_goals omega
/-! running sums: two rows -/
def ht_T2 (P Q : Nat) (x y : Int32) (b : Nat) : Int32 := (if P < b then x else 0) + (if Q < b then y else 0)
theorem ht_c1 (P : Nat) (v : Int32) {b : Nat} (hb : b < 7) : ht_c P v (8 + b) = if b = P then v else 0 := by
  unfold ht_c
  by_cases h : b = P
  · rw [if_pos (by omega), if_pos h]
  · rw [if_neg (by omega), if_neg h]
theorem ht_if1 (P : Nat) (v : Int32) (b : Nat) : (if P < b + 1 then v else 0) = (if P < b then v else 0) + (if b = P then v else 0) := by
  by_cases h : P < b
  · rw [if_pos h, if_pos (by omega), if_neg (by omega), Int32.add_zero]
  · by_cases e : b = P
    · rw [if_neg h, if_pos e, if_pos (by omega), Int32.zero_add]
    · rw [if_neg h, if_neg e, if_neg (by omega), Int32.zero_add]
theorem ht_ac (a b c d : Int32) : a + b + (c + d) = a + c + (b + d) := by grind
theorem ht_T2s (P Q : Nat) (x y : Int32) {b : Nat} (hb : b < 7) : ht_T2 P Q x y b + (ht_c P x (8 + b) + ht_c Q y (8 + b)) = ht_T2 P Q x y (b + 1) := by
  unfold ht_T2
  rw [ht_c1 P x hb, ht_c1 Q y hb, ht_if1 P x b, ht_if1 Q y b, ht_ac]
/-! longs -/
theorem ht_sq {U : Int} (h1 : -50 ≤ U) (h2 : U ≤ 50) : 0 ≤ U * U ∧ U * U ≤ 2500 := by
  have a := Int.mul_nonneg (show (0 : Int) ≤ 50 - U by omega) (show (0 : Int) ≤ 50 + U by omega)
  have e : (50 - U) * (50 + U) = 2500 - U * U := by grind
  refine ⟨?_, by omega⟩
  rcases Int.le_total 0 U with h | h
  · exact Int.mul_nonneg h h
  · have b := Int.mul_nonneg (show (0 : Int) ≤ -U by omega) (show (0 : Int) ≤ -U by omega)
    have e2 : -U * -U = U * U := by grind
    omega
theorem ht_sq0 {U V : Int} : (U + V) * (U + V) < (U * U + V * V) * 2 ↔ U ≠ V := by
  have e : (U * U + V * V) * 2 - (U + V) * (U + V) = (U - V) * (U - V) := by grind
  constructor
  · intro h n
    subst n
    have e3 : (U - U) * (U - U) = 0 := by grind
    omega
  · intro n
    have p : 0 < (U - V) * (U - V) := by
      rcases Int.lt_or_gt_of_ne n with h | h
      · have b := Int.mul_pos (show (0 : Int) < V - U by omega) (show (0 : Int) < V - U by omega)
        have e2 : (V - U) * (V - U) = (U - V) * (U - V) := by grind
        omega
      · exact Int.mul_pos (by omega) (by omega)
    omega
theorem ht_sumI {u v : Int32} (hu : -50 ≤ u.toInt ∧ u.toInt ≤ 50) (hv : -50 ≤ v.toInt ∧ v.toInt ≤ 50) : (u + v).toInt = u.toInt + v.toInt := by
  rw [Int32.toInt_add]
  exact Int.bmod_eq_of_le (by omega) (by omega)
theorem ht_cmp {u v s : Int32} (hu : -50 ≤ u.toInt ∧ u.toInt ≤ 50) (hv : -50 ≤ v.toInt ∧ v.toInt ≤ 50) (hs : s = u + v) :
    (s.toInt64 * s.toInt64) * ((nI 1).toInt64 * ((nI 2).toInt64 - (nI 1).toInt64)) < ((u.toInt64 * u.toInt64) * ((nI 2).toInt64 - (nI 1).toInt64) + ((s.toInt64 - u.toInt64) * (s.toInt64 - u.toInt64)) * (nI 1).toInt64) * (nI 2).toInt64 ↔ u ≠ v := by
  have es : s.toInt64 = Int64.ofInt (u.toInt + v.toInt) := by
    rw [← ht_sumI hu hv, hs, Int64.ofInt_int32ToInt]
  have eu : u.toInt64 = Int64.ofInt u.toInt := (Int64.ofInt_int32ToInt u).symm
  have e1 : (nI 1).toInt64 = Int64.ofInt 1 := by decide +kernel
  have e2 : (nI 2).toInt64 = Int64.ofInt 2 := by decide +kernel
  rw [es, eu, e1, e2]
  simp only [← Int64.ofInt_mul, ← Int64.ofInt_sub, ← Int64.ofInt_add]
  have q1 := ht_sq hu.1 hu.2
  have q2 := ht_sq hv.1 hv.2
  have q3 : 0 ≤ (u.toInt + v.toInt) * (u.toInt + v.toInt) ∧ (u.toInt + v.toInt) * (u.toInt + v.toInt) ≤ 10000 := by
    have e : (u.toInt + v.toInt) * (u.toInt + v.toInt) + (u.toInt - v.toInt) * (u.toInt - v.toInt) = (u.toInt * u.toInt + v.toInt * v.toInt) * 2 := by grind
    have a : ∀ z : Int, 0 ≤ z * z := fun z => by
      rcases Int.le_total 0 z with h | h
      · exact Int.mul_nonneg h h
      · have b := Int.mul_nonneg (show (0 : Int) ≤ -z by omega) (show (0 : Int) ≤ -z by omega)
        have e2 : -z * -z = z * z := by grind
        omega
    have a1 := a (u.toInt + v.toInt)
    have a2 := a (u.toInt - v.toInt)
    omega
  have r1 : (u.toInt + v.toInt) * (u.toInt + v.toInt) * (1 * (2 - 1)) = (u.toInt + v.toInt) * (u.toInt + v.toInt) := by grind
  have r2 : (u.toInt * u.toInt * (2 - 1) + (u.toInt + v.toInt - u.toInt) * (u.toInt + v.toInt - u.toInt) * 1) * 2 = (u.toInt * u.toInt + v.toInt * v.toInt) * 2 := by grind
  rw [r1, r2]
  have m1 : Int64.minValue.toInt = -9223372036854775808 := by decide +kernel
  have m2 : Int64.maxValue.toInt = 9223372036854775807 := by decide +kernel
  rw [Int64.ofInt_lt_iff_lt (by omega) (by omega) (by omega) (by omega), ht_sq0]
  exact not_congr Int32.toInt_inj
/-- what the law's cells give: -50 .. 50 -/
theorem ht_bd (p : Int32) : -50 ≤ (((p &&& 2147483647) - (p &&& 2147483647) / 101 * 101) - 50).toInt ∧ (((p &&& 2147483647) - (p &&& 2147483647) / 101 * 101) - 50).toInt ≤ 50 := by
  obtain ⟨j, hj, e⟩ := pk_andE p (m := 2147483647) 31 (by decide +kernel)
  have r : nI j - nI j / 101 * 101 = nI (j % 101) := pk_rem (d := 101) hj (by omega) (by omega)
  have t : (nI (j % 101) - 50).toInt = ((j % 101 : Nat) : Int) - 50 := pk_sub_toInt (a := j % 101) (b := 50) (by omega) (by omega)
  rw [e, r, t]
  omega
end
section
/-! ===== 02: clearCells, addRow, fromRows, fromParent, rowsIn, sumIn ===== -/
section
variable {ls ct tr bf bb : Int32} {bt bB : Int64} {a1 a2 a3 a4 a5 a6 a7 a8 a9 a10 : Nat → Int32}
theorem ht_fo {post : Int32 → Prop} {u : St0} {p0 p1 r : Int32} (h : (p0 >>> ((3 * p1) &&& 31)) &&& 7 = r) (H : post r) : wpX_featureOf post u p0 p1 := by
  unfold wpX_featureOf
  rw [h]
  exact H
theorem ht_clear {post : St2 → Prop} {k : Nat} (hk : k < 7) (H : post (ls, ct, tr, bf, bb, bt, bB, a1, a2, a3, a4, a5, a6, a7, a8, ht_blk k 24 (fun _ => 0) a9, ht_blk k 24 (fun _ => 0) a10)) : wpX_clearCells post (ls, ct, tr, bf, bb, bt, bB, a1, a2, a3, a4, a5, a6, a7, a8, a9, a10) (nI k) := by
  refine pk_loop (σ := (Nat → Int32) × (Nat → Int32)) (fun n i s => wX_clearCells_2 post (nI k) ls ct tr bf bb bt bB n (nI i) a1 a2 a3 a4 a5 a6 a7 a8 s.1 s.2) (fun i s => s.1 = ht_blk k i (fun _ => 0) a9 ∧ s.2 = ht_blk k i (fun _ => 0) a10) 24 0 (a9, a10) (by omega) ⟨(ht_blk0 _ _ _).symm, (ht_blk0 _ _ _).symm⟩ ?_ ?_
  · intro n s h
    obtain ⟨s1, s2⟩ := s
    obtain ⟨h1, h2⟩ := h
    dsimp only at h1 h2
    subst h1 h2
    exact pk_le 24 24 (fun _ => H) (fun z => absurd z (by omega))
  · intro n i s hi h hw
    obtain ⟨s1, s2⟩ := s
    obtain ⟨h1, h2⟩ := h
    dsimp only at h1 h2
    subst h1 h2
    have ec : (nI k * 24 + nI i).toNatClampNeg = k * 24 + i := pk_cl (k * 24 + i) (ht_ix k i)
    refine pk_le 24 i (fun z => absurd z (by omega)) (fun _ => ⟨pk_in (k * 24 + i) 168 (by omega) (ht_ix k i), nm_r (e' := ht_blk k (i + 1) (fun _ => 0) a9) ?_ ⟨pk_in (k * 24 + i) 168 (by omega) (ht_ix k i), nm_r (e' := ht_blk k (i + 1) (fun _ => 0) a10) ?_ (nm_r (nI_1 i) (hw (_, _) ⟨rfl, rfl⟩))⟩⟩)
    · rw [ec]
      exact ht_blkS k i (fun _ => 0) a9
    · rw [ec]
      exact ht_blkS k i (fun _ => 0) a10
theorem ht_ar_step {post : St2 → Prop} {n k i f P d c : Nat} (hk : k < 7) (hi : i < 24) (hf : f < 3) (hP : P < 8) (h1 : a1 i = nI (8 * P)) (hd : (if f = 1 then P else 0) = d) (hc : k * 24 + f * 8 + d = c)
    (H : wX_addRow_2 post (nI k) (nI i) ls ct tr bf bb bt bB n (nI (f + 1)) a1 a2 a3 a4 a5 a6 a7 a8 (ht_u c 1 a9) (ht_u c (a7 i) a10)) : wX_addRow_2 post (nI k) (nI i) ls ct tr bf bb bt bB (n + 1) (nI f) a1 a2 a3 a4 a5 a6 a7 a8 a9 a10 := by
  have hd8 : d < 8 := by
    rw [← hd]
    split
    all_goals omega
  have e : (a1 (nI i).toNatClampNeg >>> ((3 * nI f) &&& 31)) &&& 7 = nI d := by
    rw [nI_clamp (by omega), h1, ← hd]
    exact ht_ft P hP f hf
  have ex : nI k * 24 + nI f * 8 + nI d = nI c := by
    rw [ht_ix3, hc]
  refine pk_le 3 f (fun z => absurd z (by omega)) (fun _ => ⟨pk_in i 24 hi, ht_fo e (nm_r ex ⟨pk_in c 168 (by omega), pk_in c 168 (by omega), nm_r (e' := ht_u c 1 a9) ?_ ⟨pk_in c 168 (by omega), pk_in i 24 hi, pk_in c 168 (by omega), nm_r (e' := ht_u c (a7 i) a10) ?_ (nm_r (nI_1 f) H)⟩⟩)⟩)
  · rw [nI_clamp (show c < 2 ^ 31 by omega)]
    rfl
  · rw [nI_clamp (show c < 2 ^ 31 by omega), nI_clamp (show i < 2 ^ 31 by omega)]
    rfl
theorem ht_addRow {post : St2 → Prop} {k i P : Nat} (hk : k < 7) (hi : i < 24) (hP : P < 8) (h1 : a1 i = nI (8 * P)) (H : post (ls, ct, tr, bf, bb, bt, bB, a1, a2, a3, a4, a5, a6, a7, a8, ht_add k P 1 a9, ht_add k P (a7 i) a10)) : wpX_addRow post (ls, ct, tr, bf, bb, bt, bB, a1, a2, a3, a4, a5, a6, a7, a8, a9, a10) (nI k) (nI i) := by
  rw [← ht_add3 hP, ← ht_add3 hP] at H
  exact ⟨4, ht_ar_step (f := 0) (d := 0) (c := k * 24) hk hi (by omega) hP h1 rfl (by omega) (ht_ar_step (f := 1) (d := P) (c := k * 24 + 8 + P) hk hi (by omega) hP h1 rfl (by omega) (ht_ar_step (f := 2) (d := 0) (c := k * 24 + 16) hk hi (by omega) hP h1 rfl (by omega) (pk_le 3 3 (fun _ => H) (fun z => absurd z (by omega)))))⟩
theorem ht_fr_step {post : St2 → Prop} {n k i P : Nat} (hk : k < 7) (hi : i < 2) (hP : P < 8) (h1 : a1 i = nI (8 * P))
    (H : wX_fromRows_7 post (nI k) n (nI (i + 1)) ls (nI 2) tr bf bb bt bB a1 a2 a3 a4 a5 a6 a7 a8 (ht_ad (decide (a8 i = nI k)) k P 1 a9) (ht_ad (decide (a8 i = nI k)) k P (a7 i) a10)) : wX_fromRows_7 post (nI k) (n + 1) (nI i) ls (nI 2) tr bf bb bt bB a1 a2 a3 a4 a5 a6 a7 a8 a9 a10 := by
  refine pk_le 2 i (fun z => absurd z (by omega)) (fun _ => ⟨pk_in i 24 (by omega), ?_⟩)
  have ec : (nI i).toNatClampNeg = i := nI_clamp (by omega)
  by_cases hb : a8 i = nI k
  · have e9 : ∀ v a, ht_ad (decide (a8 i = nI k)) k P v a = ht_add k P v a := fun v a => by
      rw [decide_eq_true hb]
      rfl
    rw [e9, e9] at H
    exact br_t (by rw [ec]; exact hb) (ht_addRow hk (by omega) hP h1 (nm_r (nI_1 i) H))
  · have e9 : ∀ v a, ht_ad (decide (a8 i = nI k)) k P v a = a := fun v a => by
      rw [decide_eq_false hb]
      rfl
    rw [e9, e9] at H
    exact br_f (by rw [ec]; exact hb) (nm_r (nI_1 i) H)
theorem ht_fromRows {post : St2 → Prop} {k P Q : Nat} (hk : k < 7) (hP : P < 8) (hQ : Q < 8) (h0 : a1 0 = nI (8 * P)) (h1 : a1 1 = nI (8 * Q))
    (H : post (ls, nI 2, tr, bf, bb, bt, bB, a1, a2, a3, a4, a5, a6, a7, a8, ht_ad (decide (a8 1 = nI k)) k Q 1 (ht_ad (decide (a8 0 = nI k)) k P 1 (ht_blk k 24 (fun _ => 0) a9)), ht_ad (decide (a8 1 = nI k)) k Q (a7 1) (ht_ad (decide (a8 0 = nI k)) k P (a7 0) (ht_blk k 24 (fun _ => 0) a10)))) : wpX_fromRows post (ls, nI 2, tr, bf, bb, bt, bB, a1, a2, a3, a4, a5, a6, a7, a8, a9, a10) (nI k) :=
  ht_clear hk ⟨3, ht_fr_step (i := 0) hk (by omega) hP h0 (ht_fr_step (i := 1) hk (by omega) hQ h1 (pk_le 2 2 (fun _ => H) (fun z => absurd z (by omega))))⟩
theorem ht_fromParent {post : St2 → Prop} {k p o : Nat} (hk : k < 7) (hp : p < 7) (ho : o < 7) (np : p ≠ k) (no : o ≠ k)
    (H : post (ls, ct, tr, bf, bb, bt, bB, a1, a2, a3, a4, a5, a6, a7, a8, ht_blk k 24 (fun j => a9 (p * 24 + j) - a9 (o * 24 + j)) a9, ht_blk k 24 (fun j => a10 (p * 24 + j) - a10 (o * 24 + j)) a10)) : wpX_fromParent post (ls, ct, tr, bf, bb, bt, bB, a1, a2, a3, a4, a5, a6, a7, a8, a9, a10) (nI k) (nI p) (nI o) := by
  refine pk_loop (σ := (Nat → Int32) × (Nat → Int32)) (fun n i s => wX_fromParent_3 post (nI k) (nI p) (nI o) ls ct tr bf bb bt bB n (nI i) a1 a2 a3 a4 a5 a6 a7 a8 s.1 s.2) (fun i s => s.1 = ht_blk k i (fun j => a9 (p * 24 + j) - a9 (o * 24 + j)) a9 ∧ s.2 = ht_blk k i (fun j => a10 (p * 24 + j) - a10 (o * 24 + j)) a10) 24 0 (a9, a10) (by omega) ⟨(ht_blk0 _ _ _).symm, (ht_blk0 _ _ _).symm⟩ ?_ ?_
  · intro n s h
    obtain ⟨s1, s2⟩ := s
    obtain ⟨h1, h2⟩ := h
    dsimp only at h1 h2
    subst h1 h2
    exact pk_le 24 24 (fun _ => H) (fun z => absurd z (by omega))
  · intro n i s hi h hw
    obtain ⟨s1, s2⟩ := s
    obtain ⟨h1, h2⟩ := h
    dsimp only at h1 h2
    have ec : (nI k * 24 + nI i).toNatClampNeg = k * 24 + i := pk_cl (k * 24 + i) (ht_ix k i)
    have ep : (nI p * 24 + nI i).toNatClampNeg = p * 24 + i := pk_cl (p * 24 + i) (ht_ix p i)
    have eo : (nI o * 24 + nI i).toNatClampNeg = o * 24 + i := pk_cl (o * 24 + i) (ht_ix o i)
    have ik : vp_in (nI k * 24 + nI i) 168 := pk_in (k * 24 + i) 168 (by omega) (ht_ix k i)
    have ip : vp_in (nI p * 24 + nI i) 168 := pk_in (p * 24 + i) 168 (by omega) (ht_ix p i)
    have io : vp_in (nI o * 24 + nI i) 168 := pk_in (o * 24 + i) 168 (by omega) (ht_ix o i)
    have op : p * 24 + i < k * 24 ∨ k * 24 + i ≤ p * 24 + i := by omega
    have oo : o * 24 + i < k * 24 ∨ k * 24 + i ≤ o * 24 + i := by omega
    have f9 : upd s1 (nI k * 24 + nI i).toNatClampNeg (s1 (nI p * 24 + nI i).toNatClampNeg - s1 (nI o * 24 + nI i).toNatClampNeg) = ht_blk k (i + 1) (fun j => a9 (p * 24 + j) - a9 (o * 24 + j)) a9 := by
      rw [ec, ep, eo, h1, ht_blk_out op, ht_blk_out oo]
      exact ht_blkS k i (fun j => a9 (p * 24 + j) - a9 (o * 24 + j)) a9
    have f10 : upd s2 (nI k * 24 + nI i).toNatClampNeg (s2 (nI p * 24 + nI i).toNatClampNeg - s2 (nI o * 24 + nI i).toNatClampNeg) = ht_blk k (i + 1) (fun j => a10 (p * 24 + j) - a10 (o * 24 + j)) a10 := by
      rw [ec, ep, eo, h2, ht_blk_out op, ht_blk_out oo]
      exact ht_blkS k i (fun j => a10 (p * 24 + j) - a10 (o * 24 + j)) a10
    exact pk_le 24 i (fun z => absurd z (by omega)) (fun _ => ⟨ip, io, ik, nm_r f9 ⟨ip, io, ik, nm_r f10 (nm_r (nI_1 i) (hw (_, _) ⟨rfl, rfl⟩))⟩⟩)
theorem ht_sum_s {a : Nat → Int32} {k i : Nat} {v s : Int32} (h0 : a (k * 24) = v) (hz : ∀ j, 0 < j → j < 8 → a (k * 24 + j) = 0) (hi : i < 8) (h : s = if i = 0 then 0 else v) : s + a (k * 24 + i) = if i + 1 = 0 then 0 else v := by
  rw [if_neg (by omega : ¬ i + 1 = 0), h]
  by_cases e : i = 0
  · subst e
    rw [if_pos rfl, Nat.add_zero, h0, Int32.zero_add]
  · rw [if_neg e, hz i (by omega) hi, Int32.add_zero]
theorem ht_rowsIn {post : Int32 → Prop} {k : Nat} {v : Int32} (hk : k < 7) (h0 : a9 (k * 24) = v) (hz : ∀ j, 0 < j → j < 8 → a9 (k * 24 + j) = 0) (H : post v) : wpX_rowsIn post (ls, ct, tr, bf, bb, bt, bB, a1, a2, a3, a4, a5, a6, a7, a8, a9, a10) (nI k) := by
  refine pk_loop (fun n i s => wX_rowsIn_4 post (nI k) ls ct tr bf bb bt bB a1 a2 a3 a4 a5 a6 a7 a8 a9 a10 n s (nI i)) (fun i s => s = if i = 0 then 0 else v) 8 0 (0 : Int32) (by omega) rfl ?_ ?_
  · intro n s h
    rw [if_neg (by omega)] at h
    exact pk_le 8 8 (fun _ => by rw [h]; exact H) (fun z => absurd z (by omega))
  · intro n i s hi h hw
    have ec : (nI k * 24 + nI i).toNatClampNeg = k * 24 + i := pk_cl (k * 24 + i) (ht_ix k i)
    exact pk_le 8 i (fun z => absurd z (by omega)) (fun _ => ⟨pk_in (k * 24 + i) 168 (by omega) (ht_ix k i), nm_e (nm_r (nI_1 i) (hw _ (by rw [ec]; exact ht_sum_s h0 hz hi h)))⟩)
theorem ht_sumIn {post : Int32 → Prop} {k : Nat} {v : Int32} (hk : k < 7) (h0 : a10 (k * 24) = v) (hz : ∀ j, 0 < j → j < 8 → a10 (k * 24 + j) = 0) (H : post v) : wpX_sumIn post (ls, ct, tr, bf, bb, bt, bB, a1, a2, a3, a4, a5, a6, a7, a8, a9, a10) (nI k) := by
  refine pk_loop (fun n i s => wX_sumIn_4 post (nI k) ls ct tr bf bb bt bB a1 a2 a3 a4 a5 a6 a7 a8 a9 a10 n s (nI i)) (fun i s => s = if i = 0 then 0 else v) 8 0 (0 : Int32) (by omega) rfl ?_ ?_
  · intro n s h
    rw [if_neg (by omega)] at h
    exact pk_le 8 8 (fun _ => by rw [h]; exact H) (fun z => absurd z (by omega))
  · intro n i s hi h hw
    have ec : (nI k * 24 + nI i).toNatClampNeg = k * 24 + i := pk_cl (k * 24 + i) (ht_ix k i)
    exact pk_le 8 i (fun z => absurd z (by omega)) (fun _ => ⟨pk_in (k * 24 + i) 168 (by omega) (ht_ix k i), nm_e (nm_r (nI_1 i) (hw _ (by rw [ec]; exact ht_sum_s h0 hz hi h)))⟩)
end
end
section
/-! ===== 03: tryLeft, findSplit, makeLeaf, splitNode ===== -/
section
variable {ls ct tr bf bb : Int32} {bt bB : Int64} {a1 a2 a3 a4 a5 a6 a7 a8 a9 a10 : Nat → Int32}
theorem ht_try_no {post : St2 → Prop} {p0 p1 : Int32} {nl sl n s : Int64} (h : nl < ls.toInt64 ∨ ¬ ls.toInt64 ≤ n - nl) (H : post (ls, ct, tr, bf, bb, bt, bB, a1, a2, a3, a4, a5, a6, a7, a8, a9, a10)) : wpX_tryLeft post (ls, ct, tr, bf, bb, bt, bB, a1, a2, a3, a4, a5, a6, a7, a8, a9, a10) p0 p1 nl sl n s := by
  refine nm_e (nm_e ?_)
  rcases h with h | h
  · exact br_t h H
  · exact br_c (fun _ => H) (fun _ => br_f h H)
theorem ht_try_new {post : St2 → Prop} {p0 p1 : Int32} {nl sl n s : Int64} (h1 : ¬ nl < ls.toInt64) (h2 : ls.toInt64 ≤ n - nl) (hb : bf < 0) (H : post (ls, ct, tr, p0, p1, ((sl * sl) * (n - nl)) + (((s - sl) * (s - sl)) * nl), nl * (n - nl), a1, a2, a3, a4, a5, a6, a7, a8, a9, a10)) : wpX_tryLeft post (ls, ct, tr, bf, bb, bt, bB, a1, a2, a3, a4, a5, a6, a7, a8, a9, a10) p0 p1 nl sl n s :=
  nm_e (nm_e (br_f h1 (br_t h2 (nm_e (nm_e (br_t hb H))))))
theorem ht_try_old {post : St2 → Prop} {p0 p1 : Int32} {nl sl n s : Int64} (h1 : ¬ nl < ls.toInt64) (h2 : ls.toInt64 ≤ n - nl) (hb : ¬ bf < 0) (h3 : ¬ (bt * (nl * (n - nl))) < ((((sl * sl) * (n - nl)) + (((s - sl) * (s - sl)) * nl)) * bB)) (H : post (ls, ct, tr, bf, bb, bt, bB, a1, a2, a3, a4, a5, a6, a7, a8, a9, a10)) : wpX_tryLeft post (ls, ct, tr, bf, bb, bt, bB, a1, a2, a3, a4, a5, a6, a7, a8, a9, a10) p0 p1 nl sl n s :=
  nm_e (nm_e (br_f h1 (br_t h2 (nm_e (nm_e (br_f hb (br_f h3 H)))))))
theorem ht_in_no {post : St2 → Prop} {J : Int32 → Int32 → Int32 → Int32 → Int32 → Int32 → Int64 → Int64 → (Nat → Int32) → (Nat → Int32) → (Nat → Int32) → (Nat → Int32) → (Nat → Int32) → (Nat → Int32) → (Nat → Int32) → (Nat → Int32) → (Nat → Int32) → (Nat → Int32) → Prop} {k f : Nat} {n s : Int32} {G : Nat → Int32} (hk : k < 7) (hf : f < 3) (g0 : G 0 = 0) (gs : ∀ b, b < 7 → G b + a9 (k * 24 + f * 8 + b) = G (b + 1))
    (hn : ∀ b, b < 7 → ((G (b + 1)).toInt64 < ls.toInt64 ∨ ¬ ls.toInt64 ≤ n.toInt64 - (G (b + 1)).toInt64)) (H : J (nI (f + 1)) ls ct tr bf bb bt bB a1 a2 a3 a4 a5 a6 a7 a8 a9 a10) : ∃ fu, wX_findSplit_23 post J (nI k) n s (nI f) fu 0 0 0 ls ct tr bf bb bt bB a1 a2 a3 a4 a5 a6 a7 a8 a9 a10 := by
  refine pk_loop (σ := Int32 × Int32) (fun m i t => wX_findSplit_23 post J (nI k) n s (nI f) m t.1 t.2 (nI i) ls ct tr bf bb bt bB a1 a2 a3 a4 a5 a6 a7 a8 a9 a10) (fun i t => t.1 = G i) 7 0 (0, 0) (by omega) g0.symm ?_ ?_
  · intro m t _
    exact pk_le 7 7 (fun _ => nm_r (nI_1 f) H) (fun z => absurd z (by omega))
  · intro m i t hi h hw
    have ic : vp_in (nI k * 24 + nI f * 8 + nI i) 168 := pk_in (k * 24 + f * 8 + i) 168 (by omega) (ht_ix3 k f i)
    have ec : (nI k * 24 + nI f * 8 + nI i).toNatClampNeg = k * 24 + f * 8 + i := pk_cl (k * 24 + f * 8 + i) (ht_ix3 k f i)
    have e9 : t.1 + a9 (nI k * 24 + nI f * 8 + nI i).toNatClampNeg = G (i + 1) := by
      rw [ec, h]
      exact gs i hi
    exact pk_le 7 i (fun z => absurd z (by omega)) (fun _ => ⟨ic, nm_r e9 ⟨ic, nm_e (ht_try_no (hn i hi) (nm_r (nI_1 i) (hw (G (i + 1), t.2 + a10 (nI k * 24 + nI f * 8 + nI i).toNatClampNeg) rfl)))⟩⟩)
/-- the best split's share, written as the class computes it: one row to the left (rest u), s the sum of both -/
def ht_top (u s : Int32) : Int64 := ((u.toInt64 * u.toInt64) * ((nI 2).toInt64 - (nI 1).toInt64)) + (((s.toInt64 - u.toInt64) * (s.toInt64 - u.toInt64)) * (nI 1).toInt64)
def ht_bot : Int64 := (nI 1).toInt64 * ((nI 2).toInt64 - (nI 1).toInt64)
theorem ht_in_yes {post : St2 → Prop} {J : Int32 → Int32 → Int32 → Int32 → Int32 → Int32 → Int64 → Int64 → (Nat → Int32) → (Nat → Int32) → (Nat → Int32) → (Nat → Int32) → (Nat → Int32) → (Nat → Int32) → (Nat → Int32) → (Nat → Int32) → (Nat → Int32) → (Nat → Int32) → Prop} {k f L R : Nat} {s u : Int32} {G T : Nat → Int32} (hk : k < 7) (hf : f < 3) (hL : L < R) (hR : R < 8) (g0 : G 0 = 0) (gs : ∀ b, b < 7 → G b + a9 (k * 24 + f * 8 + b) = G (b + 1)) (t0 : T 0 = 0) (ts : ∀ b, b < 7 → T b + a10 (k * 24 + f * 8 + b) = T (b + 1))
    (h0 : ∀ b, b ≤ L → G b = nI 0) (h1 : ∀ b, L < b → b ≤ R → G b = nI 1 ∧ T b = u) (h2 : ∀ b, R < b → G b = nI 2) (H : J (nI (f + 1)) (nI 1) ct tr (nI f) (nI L) (ht_top u s) ht_bot a1 a2 a3 a4 a5 a6 a7 a8 a9 a10) : ∃ fu, wX_findSplit_23 post J (nI k) (nI 2) s (nI f) fu 0 0 0 (nI 1) ct tr (-1) bb bt bB a1 a2 a3 a4 a5 a6 a7 a8 a9 a10 := by
  refine pk_loop (σ := Int32 × Int32 × Int32 × Int32 × Int64 × Int64) (fun m i t => wX_findSplit_23 post J (nI k) (nI 2) s (nI f) m t.1 t.2.1 (nI i) (nI 1) ct tr t.2.2.1 t.2.2.2.1 t.2.2.2.2.1 t.2.2.2.2.2 a1 a2 a3 a4 a5 a6 a7 a8 a9 a10) (fun i t => t.1 = G i ∧ t.2.1 = T i ∧ (i ≤ L → t.2.2.1 = -1) ∧ (L < i → t.2.2.1 = nI f ∧ t.2.2.2.1 = nI L ∧ t.2.2.2.2.1 = ht_top u s ∧ t.2.2.2.2.2 = ht_bot)) 7 0 (0, 0, -1, bb, bt, bB) (by omega) ⟨g0.symm, t0.symm, fun _ => rfl, fun z => absurd z (by omega)⟩ ?_ ?_
  · intro m t h
    obtain ⟨c1, c2, c3, c4, c5, c6⟩ := t
    obtain ⟨_, _, _, q⟩ := h
    obtain ⟨q1, q2, q3, q4⟩ := q (by omega)
    dsimp only at q1 q2 q3 q4
    subst q1 q2 q3 q4
    exact pk_le 7 7 (fun _ => nm_r (nI_1 f) H) (fun z => absurd z (by omega))
  · intro m i t hi h hw
    obtain ⟨c1, c2, c3, c4, c5, c6⟩ := t
    obtain ⟨p1, p2, p3, p4⟩ := h
    dsimp only at p1 p2 p3 p4
    have ic : vp_in (nI k * 24 + nI f * 8 + nI i) 168 := pk_in (k * 24 + f * 8 + i) 168 (by omega) (ht_ix3 k f i)
    have ec : (nI k * 24 + nI f * 8 + nI i).toNatClampNeg = k * 24 + f * 8 + i := pk_cl (k * 24 + f * 8 + i) (ht_ix3 k f i)
    have e9 : c1 + a9 (nI k * 24 + nI f * 8 + nI i).toNatClampNeg = G (i + 1) := by
      rw [ec, p1]
      exact gs i hi
    have e10 : c2 + a10 (nI k * 24 + nI f * 8 + nI i).toNatClampNeg = T (i + 1) := by
      rw [ec, p2]
      exact ts i hi
    refine pk_le 7 i (fun z => absurd z (by omega)) (fun _ => ⟨ic, nm_r e9 ⟨ic, nm_r e10 ?_⟩⟩)
    by_cases hiL : i < L
    · refine ht_try_no (Or.inl ?_) (nm_r (nI_1 i) (hw (G (i + 1), T (i + 1), c3, c4, c5, c6) ⟨rfl, rfl, fun _ => p3 (by omega), fun z => absurd z (by omega)⟩))
      rw [h0 (i + 1) (by omega)]
      decide +kernel
    · by_cases hiR : i < R
      · obtain ⟨g1, t1⟩ := h1 (i + 1) (by omega) (by omega)
        rw [g1, t1]
        by_cases hi2 : i = L
        · refine ht_try_new (by decide +kernel) (by decide +kernel) ?_ (nm_r (nI_1 i) (hw (nI 1, u, nI f, nI i, ht_top u s, ht_bot) ⟨g1.symm, t1.symm, fun z => absurd z (by omega), fun _ => ⟨rfl, by rw [hi2], rfl, rfl⟩⟩))
          rw [p3 (by omega)]
          exact (by decide +kernel : (-1 : Int32) < 0)
        · obtain ⟨q1, q2, q3, q4⟩ := p4 (by omega)
          subst q1 q2 q3 q4
          exact ht_try_old (by decide +kernel) (by decide +kernel) (nI_pos (by omega)) Int64.lt_irrefl (nm_r (nI_1 i) (hw (nI 1, u, nI f, nI L, ht_top u s, ht_bot) ⟨g1.symm, t1.symm, fun z => absurd z (by omega), fun _ => ⟨rfl, rfl, rfl, rfl⟩⟩))
      · refine ht_try_no (Or.inr ?_) (nm_r (nI_1 i) (hw (G (i + 1), T (i + 1), c3, c4, c5, c6) ⟨rfl, rfl, fun z => absurd z (by omega), fun _ => p4 (by omega)⟩))
        rw [h2 (i + 1) (by omega)]
        decide +kernel
theorem ht_find_no {post : St2 → Prop} {k : Nat} {n s : Int32} {G : Nat → Nat → Int32} (hk : k < 7) (g0 : ∀ f, f < 3 → G f 0 = 0) (gs : ∀ f, f < 3 → ∀ b, b < 7 → G f b + a9 (k * 24 + f * 8 + b) = G f (b + 1))
    (hn : ∀ f, f < 3 → ∀ b, b < 7 → ((G f (b + 1)).toInt64 < ls.toInt64 ∨ ¬ ls.toInt64 ≤ n.toInt64 - (G f (b + 1)).toInt64)) (H : post (ls, ct, tr, -1, bb, bt, bB, a1, a2, a3, a4, a5, a6, a7, a8, a9, a10)) : wpX_findSplit post (ls, ct, tr, bf, bb, bt, bB, a1, a2, a3, a4, a5, a6, a7, a8, a9, a10) (nI k) n s :=
  ⟨4, pk_le 3 0 (fun z => absurd z (by omega)) (fun _ => ht_in_no (f := 0) hk (by omega) (g0 0 (by omega)) (gs 0 (by omega)) (hn 0 (by omega)) (pk_le 3 1 (fun z => absurd z (by omega)) (fun _ => ht_in_no (f := 1) hk (by omega) (g0 1 (by omega)) (gs 1 (by omega)) (hn 1 (by omega)) (pk_le 3 2 (fun z => absurd z (by omega)) (fun _ => ht_in_no (f := 2) hk (by omega) (g0 2 (by omega)) (gs 2 (by omega)) (hn 2 (by omega)) (pk_le 3 3 (fun _ => H) (fun z => absurd z (by omega))))))))⟩
theorem ht_find_yes {post : St2 → Prop} {k L R : Nat} {s u : Int32} {G : Nat → Nat → Int32} {T : Nat → Int32} (hk : k < 7) (hL : L < R) (hR : R < 8) (g0 : ∀ f, f < 3 → G f 0 = 0) (gs : ∀ f, f < 3 → ∀ b, b < 7 → G f b + a9 (k * 24 + f * 8 + b) = G f (b + 1)) (t0 : T 0 = 0) (ts : ∀ b, b < 7 → T b + a10 (k * 24 + 1 * 8 + b) = T (b + 1))
    (hn : ∀ f, f < 3 → f ≠ 1 → ∀ b, b < 7 → ((G f (b + 1)).toInt64 < (nI 1).toInt64 ∨ ¬ (nI 1).toInt64 ≤ (nI 2).toInt64 - (G f (b + 1)).toInt64))
    (h0 : ∀ b, b ≤ L → G 1 b = nI 0) (h1 : ∀ b, L < b → b ≤ R → G 1 b = nI 1 ∧ T b = u) (h2 : ∀ b, R < b → G 1 b = nI 2) (H : post (nI 1, ct, tr, nI 1, nI L, ht_top u s, ht_bot, a1, a2, a3, a4, a5, a6, a7, a8, a9, a10)) : wpX_findSplit post (nI 1, ct, tr, bf, bb, bt, bB, a1, a2, a3, a4, a5, a6, a7, a8, a9, a10) (nI k) (nI 2) s :=
  ⟨4, pk_le 3 0 (fun z => absurd z (by omega)) (fun _ => ht_in_no (f := 0) hk (by omega) (g0 0 (by omega)) (gs 0 (by omega)) (hn 0 (by omega) (by omega)) (pk_le 3 1 (fun z => absurd z (by omega)) (fun _ => ht_in_yes (f := 1) hk (by omega) hL hR (g0 1 (by omega)) (gs 1 (by omega)) t0 ts h0 h1 h2 (pk_le 3 2 (fun z => absurd z (by omega)) (fun _ => ht_in_no (f := 2) hk (by omega) (g0 2 (by omega)) (gs 2 (by omega)) (hn 2 (by omega) (by omega)) (pk_le 3 3 (fun _ => H) (fun z => absurd z (by omega))))))))⟩
theorem ht_leaf {post : St2 → Prop} {k N : Nat} {s : Int32} (hk : k < 7) (hN : 0 < N) (hN2 : N < 2 ^ 31) (H : post (ls, ct, tr, bf, bb, bt, bB, a1, a2, upd a3 k (-6), a4, upd a5 k (s / nI N), a6, a7, a8, a9, a10)) : wpX_makeLeaf post (ls, ct, tr, bf, bb, bt, bB, a1, a2, a3, a4, a5, a6, a7, a8, a9, a10) (nI k) (nI N) s := by
  have ec : (nI k).toNatClampNeg = k := nI_clamp (by omega)
  exact ⟨pk_in k 28 (by omega), nm_r (by rw [ec]) (br_f (nI_nle hN hN2) ⟨nI_ne0 hN hN2, pk_in k 28 (by omega), nm_r (by rw [ec]) H⟩)⟩
/-- the node stays a leaf: no split was found -/
theorem ht_split_no {post : Int32 → St2 → Prop} {k N : Nat} {s : Int32} {G : Nat → Nat → Int32} (hk : k < 3) (hN : 0 < N) (hN2 : N < 2 ^ 31) (c0 : a9 (k * 24) = nI N) (cz : ∀ j, 0 < j → j < 8 → a9 (k * 24 + j) = 0) (s0 : a10 (k * 24) = s) (sz : ∀ j, 0 < j → j < 8 → a10 (k * 24 + j) = 0)
    (g0 : ∀ f, f < 3 → G f 0 = 0) (gs : ∀ f, f < 3 → ∀ b, b < 7 → G f b + a9 (k * 24 + f * 8 + b) = G f (b + 1)) (hn : ∀ f, f < 3 → ∀ b, b < 7 → ((G f (b + 1)).toInt64 < ls.toInt64 ∨ ¬ ls.toInt64 ≤ (nI N).toInt64 - (G f (b + 1)).toInt64))
    (H : post 0 (ls, ct, tr, -1, bb, bt, bB, a1, a2, upd a3 k (-6), a4, upd a5 k (s / nI N), upd a6 k (nI N), a7, a8, a9, a10)) : wpX_splitNode post (ls, ct, tr, bf, bb, bt, bB, a1, a2, a3, a4, a5, a6, a7, a8, a9, a10) 0 (nI k) := by
  have ec : (nI k).toNatClampNeg = k := nI_clamp (by omega)
  refine nm_r (ht_at k) (ht_rowsIn (by omega) c0 cz (ht_sumIn (by omega) s0 sz ⟨pk_in k 28 (by omega), nm_r (e' := upd a6 k (nI N)) (by rw [ec]) (pk_le 3 k (fun z => absurd z (by omega)) (fun _ => ht_find_no (by omega) g0 gs hn ?_))⟩))
  exact nm_e (br_t (by decide +kernel) (ht_leaf (by omega) hN hN2 H))
/-- node 0 with two rows, a split is found at the bound L: it is taken (or not) as the sums say -/
theorem ht_split_yes {post : Int32 → St2 → Prop} {L R : Nat} {s u : Int32} {G : Nat → Nat → Int32} {T : Nat → Int32} (hL : L < R) (hR : R < 8) (c0 : a9 0 = nI 2) (cz : ∀ j, 0 < j → j < 8 → a9 (0 * 24 + j) = 0) (s0 : a10 0 = s) (sz : ∀ j, 0 < j → j < 8 → a10 (0 * 24 + j) = 0)
    (g0 : ∀ f, f < 3 → G f 0 = 0) (gs : ∀ f, f < 3 → ∀ b, b < 7 → G f b + a9 (0 * 24 + f * 8 + b) = G f (b + 1)) (t0 : T 0 = 0) (ts : ∀ b, b < 7 → T b + a10 (0 * 24 + 1 * 8 + b) = T (b + 1))
    (hn : ∀ f, f < 3 → f ≠ 1 → ∀ b, b < 7 → ((G f (b + 1)).toInt64 < (nI 1).toInt64 ∨ ¬ (nI 1).toInt64 ≤ (nI 2).toInt64 - (G f (b + 1)).toInt64))
    (h0 : ∀ b, b ≤ L → G 1 b = nI 0) (h1 : ∀ b, L < b → b ≤ R → G 1 b = nI 1 ∧ T b = u) (h2 : ∀ b, R < b → G 1 b = nI 2)
    (Hno : ¬ (s.toInt64 * s.toInt64) * ht_bot < ht_top u s * (nI 2).toInt64 → post 0 (nI 1, ct, tr, nI 1, nI L, ht_top u s, ht_bot, a1, a2, upd a3 0 (-6), a4, upd a5 0 (s / nI 2), upd a6 0 (nI 2), a7, a8, a9, a10))
    (Hyes : (s.toInt64 * s.toInt64) * ht_bot < ht_top u s * (nI 2).toInt64 → post 1 (nI 1, ct, tr, nI 1, nI L, ht_top u s, ht_bot, a1, a2, upd a3 0 (nI 1), upd a4 0 (nI L), upd a5 0 0, upd a6 0 (nI 2), a7, a8, a9, a10)) : wpX_splitNode post (nI 1, ct, tr, bf, bb, bt, bB, a1, a2, a3, a4, a5, a6, a7, a8, a9, a10) 0 (nI 0) := by
  have ec : (nI 0).toNatClampNeg = 0 := nI_clamp (by omega)
  refine nm_r (ht_at 0) (ht_rowsIn (k := 0) (by omega) c0 cz (ht_sumIn (k := 0) (by omega) s0 sz ⟨pk_in 0 28 (by omega), nm_r (e' := upd a6 0 (nI 2)) (by rw [ec]) (pk_le 3 0 (fun z => absurd z (by omega)) (fun _ => ht_find_yes (k := 0) (by omega) hL hR g0 gs t0 ts hn h0 h1 h2 ?_))⟩))
  refine nm_e (br_f (nI_pos (by omega)) (br_c (fun z => ?_) (fun z => ht_leaf (k := 0) (by omega) (by omega) (by omega) (Hno z))))
  exact ⟨pk_in 0 28 (by omega), nm_r (e' := upd a3 0 (nI 1)) (by rw [ec]) ⟨pk_in 0 28 (by omega), nm_r (e' := upd a4 0 (nI L)) (by rw [ec]) ⟨pk_in 0 28 (by omega), nm_r (e' := upd a5 0 0) (by rw [ec]) (Hyes z)⟩⟩⟩
end
end
section
/-! ===== 04: part, grow ===== -/
theorem ht_b1 {lo j : Nat} {v : Int32} {a : Nat → Int32} (hj : j < 24) : ht_add 1 lo v (ht_blk 1 24 (fun _ => 0) a) (1 * 24 + j) = ht_c lo v j := by
  rw [ht_add_in, ht_blk_in hj, Int32.zero_add]
theorem ht_b0 {lo j : Nat} {v : Int32} {a : Nat → Int32} (hlo : lo < 8) (hj : j < 24) : ht_add 1 lo v (ht_blk 1 24 (fun _ => 0) a) (0 * 24 + j) = a (0 * 24 + j) := by
  rw [ht_add_out hlo (by omega), ht_blk_out (by omega)]
theorem ht_canc (a b : Int32) : a + b - a = b := by grind
theorem ht_e1 {lo j : Nat} {v : Int32} {a g : Nat → Int32} (hj : j < 24) : ht_blk 2 24 g (ht_add 1 lo v (ht_blk 1 24 (fun _ => 0) a)) (1 * 24 + j) = ht_c lo v j := by
  rw [ht_blk_out (by omega), ht_b1 hj]
theorem ht_e2 {lo hi j : Nat} {u v : Int32} {a d : Nat → Int32} (hlo : lo < 8) (hj : j < 24) (hd : d = ht_add 1 lo u (ht_blk 1 24 (fun _ => 0) a)) (h : a (0 * 24 + j) = ht_c lo u j + ht_c hi v j) : ht_blk 2 24 (fun j => d (0 * 24 + j) - d (1 * 24 + j)) d (2 * 24 + j) = ht_c hi v j := by
  rw [ht_blk_in hj]
  show d (0 * 24 + j) - d (1 * 24 + j) = _
  rw [hd, ht_b0 hlo hj, ht_b1 hj, h, ht_canc]
theorem ht_cz (P : Nat) (v : Int32) {j : Nat} (h0 : 0 < j) (h8 : j < 8) : ht_c P v j = 0 := by
  unfold ht_c
  rw [if_neg (by omega)]
theorem ht_c0 (P : Nat) (v : Int32) : ht_c P v 0 = v := by
  unfold ht_c
  rw [if_pos (Or.inl rfl)]
theorem ht_G1z (P f : Nat) : nI (ht_G1 P f 0) = 0 := by
  have h : ht_G1 P f 0 = 0 := by
    unfold ht_G1
    repeat' split
    all_goals omega
  rw [h, nI_0]
theorem ht_G2z (P Q f : Nat) : nI (ht_G2 P Q f 0) = 0 := by
  have h : ht_G2 P Q f 0 = 0 := by
    unfold ht_G2
    repeat' split
    all_goals omega
  rw [h, nI_0]
section
variable {ls ct tr bf bb : Int32} {bt bB : Int64} {a1 a2 a3 a4 a5 a6 a7 a8 a9 a10 : Nat → Int32}
theorem ht_pend {post : St2 → Prop} {lo hi : Nat} {u v : Int32} (hlo : lo < 8) (c9 : ∀ j, j < 24 → a9 (0 * 24 + j) = ht_c lo 1 j + ht_c hi 1 j) (c10 : ∀ j, j < 24 → a10 (0 * 24 + j) = ht_c lo u j + ht_c hi v j)
    (H : ∀ e9 e10 : Nat → Int32, (∀ j, j < 24 → e9 (1 * 24 + j) = ht_c lo 1 j) → (∀ j, j < 24 → e10 (1 * 24 + j) = ht_c lo u j) → (∀ j, j < 24 → e9 (2 * 24 + j) = ht_c hi 1 j) → (∀ j, j < 24 → e10 (2 * 24 + j) = ht_c hi v j) → post (ls, ct, tr, bf, bb, bt, bB, a1, a2, a3, a4, a5, a6, a7, a8, e9, e10)) :
    wpX_fromParent post (ls, ct, tr, bf, bb, bt, bB, a1, a2, a3, a4, a5, a6, a7, a8, ht_add 1 lo 1 (ht_blk 1 24 (fun _ => 0) a9), ht_add 1 lo u (ht_blk 1 24 (fun _ => 0) a10)) (nI 2) (nI 0) (nI 1) :=
  ht_fromParent (k := 2) (p := 0) (o := 1) (by omega) (by omega) (by omega) (by omega) (by omega)
    (H _ _ (fun j hj => ht_e1 hj) (fun j hj => ht_e1 hj) (fun j hj => ht_e2 hlo hj rfl (c9 j hj)) (fun j hj => ht_e2 hlo hj rfl (c10 j hj)))
theorem ht_pt_hi {post : St2 → Prop} {n i L P : Nat} {x5 : Int32} (hi : i < 2) (h8 : a8 i = nI 0) (h3 : a3 0 = nI 1) (h4 : a4 0 = nI L) (hP : P < 8) (h1 : a1 i = nI (8 * P)) (hL : L < P)
    (H : wX_part_20 post (nI 0) (nI 0) (nI 1) ls (nI 2) tr bf bb bt bB n x5 (nI (i + 1)) a1 a2 a3 a4 a5 a6 a7 (upd a8 i (nI 2)) a9 a10) : wX_part_20 post (nI 0) (nI 0) (nI 1) ls (nI 2) tr bf bb bt bB (n + 1) x5 (nI i) a1 a2 a3 a4 a5 a6 a7 a8 a9 a10 := by
  have ei : (nI i).toNatClampNeg = i := nI_clamp (by omega)
  have e0 : (nI 0).toNatClampNeg = 0 := nI_clamp (by omega)
  have ii : vp_in (nI i) 24 := pk_in i 24 (by omega)
  have i0 : vp_in (nI 0) 28 := pk_in 0 28 (by omega)
  have e : (a1 (nI i).toNatClampNeg >>> ((3 * a3 (nI 0).toNatClampNeg) &&& 31)) &&& 7 = nI P := by
    rw [ei, e0, h1, h3]
    exact ht_ft P hP 1 (by omega)
  have e4 : a4 (nI 0).toNatClampNeg = nI L := by rw [e0, h4]
  have f8 : upd a8 (nI i).toNatClampNeg (nI 1 + 1) = upd a8 i (nI 2) := by rw [ei, nI_1]
  refine pk_le 2 i (fun z => absurd z (by omega)) (fun _ => ⟨ii, br_t (by rw [ei]; exact h8) ⟨ii, i0, ht_fo e ⟨i0, pk_lt L P (fun _ => ⟨ii, nm_r f8 ⟨ii, br_f ?_ (nm_r (nI_1 i) H)⟩⟩) (fun z => absurd z (by omega)) e4⟩⟩⟩)
  rw [ei, pk_us]
  decide +kernel
theorem ht_pt_lo {post : St2 → Prop} {n i L P : Nat} {x5 w5 : Int32} (hi : i < 2) (h8 : a8 i = nI 0) (h3 : a3 0 = nI 1) (h4 : a4 0 = nI L) (hP : P < 8) (h1 : a1 i = nI (8 * P)) (hL8 : L < 8) (hL : P ≤ L) (h5 : x5 + 1 = w5)
    (H : wX_part_20 post (nI 0) (nI 0) (nI 1) ls (nI 2) tr bf bb bt bB n w5 (nI (i + 1)) a1 a2 a3 a4 a5 a6 a7 (upd a8 i (nI 1)) a9 a10) : wX_part_20 post (nI 0) (nI 0) (nI 1) ls (nI 2) tr bf bb bt bB (n + 1) x5 (nI i) a1 a2 a3 a4 a5 a6 a7 a8 a9 a10 := by
  have ei : (nI i).toNatClampNeg = i := nI_clamp (by omega)
  have e0 : (nI 0).toNatClampNeg = 0 := nI_clamp (by omega)
  have ii : vp_in (nI i) 24 := pk_in i 24 (by omega)
  have i0 : vp_in (nI 0) 28 := pk_in 0 28 (by omega)
  have e : (a1 (nI i).toNatClampNeg >>> ((3 * a3 (nI 0).toNatClampNeg) &&& 31)) &&& 7 = nI P := by
    rw [ei, e0, h1, h3]
    exact ht_ft P hP 1 (by omega)
  have e4 : a4 (nI 0).toNatClampNeg = nI L := by rw [e0, h4]
  have f8 : upd a8 (nI i).toNatClampNeg (nI 1) = upd a8 i (nI 1) := by rw [ei]
  refine pk_le 2 i (fun z => absurd z (by omega)) (fun _ => ⟨ii, br_t (by rw [ei]; exact h8) ⟨ii, i0, ht_fo e ⟨i0, pk_lt L P (fun z => absurd z (by omega)) (fun _ => ⟨ii, nm_r f8 ⟨ii, br_t ?_ (nm_r h5 (nm_r (nI_1 i) H))⟩⟩) e4⟩⟩⟩)
  rw [ei, pk_us]
/-- both rows are parted: what stands behind the loop -/
theorem ht_pt_out {post : St2 → Prop} {n P Q : Nat} (hP : P < 8) (hQ : Q < 8) (h0 : a1 0 = nI (8 * P)) (h1 : a1 1 = nI (8 * Q)) (h6 : a6 0 = nI 2)
    (H : wpX_fromParent post (ls, nI 2, tr, bf, bb, bt, bB, a1, a2, a3, a4, a5, a6, a7, a8, ht_ad (decide (a8 1 = nI 1)) 1 Q 1 (ht_ad (decide (a8 0 = nI 1)) 1 P 1 (ht_blk 1 24 (fun _ => 0) a9)), ht_ad (decide (a8 1 = nI 1)) 1 Q (a7 1) (ht_ad (decide (a8 0 = nI 1)) 1 P (a7 0) (ht_blk 1 24 (fun _ => 0) a10))) (nI 2) (nI 0) (nI 1)) :
    wX_part_20 post (nI 0) (nI 0) (nI 1) ls (nI 2) tr bf bb bt bB (n + 1) (nI 1) (nI 2) a1 a2 a3 a4 a5 a6 a7 a8 a9 a10 := by
  have e0 : (nI 0).toNatClampNeg = 0 := nI_clamp (by omega)
  refine pk_le 2 2 (fun _ => ⟨pk_in 0 28 (by omega), pk_lt 2 2 (fun z => absurd z (by omega)) (fun _ => ?_) (by rw [e0, h6]) (by decide +kernel)⟩) (fun z => absurd z (by omega))
  refine br_t rfl ?_
  rw [nI_1]
  exact ht_fromRows (k := 1) (by omega) hP hQ h0 h1 H
theorem ht_part_lo {post : St2 → Prop} {P Q : Nat} {x y : Int32} (hPQ : P < Q) (hQ : Q < 8) (h0 : a1 0 = nI (8 * P)) (h1 : a1 1 = nI (8 * Q)) (h3 : a3 0 = nI 1) (h4 : a4 0 = nI P) (h6 : a6 0 = nI 2) (h70 : a7 0 = x) (h71 : a7 1 = y) (h80 : a8 0 = nI 0) (h81 : a8 1 = nI 0)
    (c9 : ∀ j, j < 24 → a9 (0 * 24 + j) = ht_c P 1 j + ht_c Q 1 j) (c10 : ∀ j, j < 24 → a10 (0 * 24 + j) = ht_c P x j + ht_c Q y j)
    (H : ∀ e8 e9 e10 : Nat → Int32, (∀ j, j < 24 → e9 (1 * 24 + j) = ht_c P 1 j) → (∀ j, j < 24 → e10 (1 * 24 + j) = ht_c P x j) → (∀ j, j < 24 → e9 (2 * 24 + j) = ht_c Q 1 j) → (∀ j, j < 24 → e10 (2 * 24 + j) = ht_c Q y j) → post (ls, nI 2, tr, bf, bb, bt, bB, a1, a2, a3, a4, a5, a6, a7, e8, e9, e10)) :
    wpX_part post (ls, nI 2, tr, bf, bb, bt, bB, a1, a2, a3, a4, a5, a6, a7, a8, a9, a10) 0 (nI 0) := by
  have q0 : decide (upd (upd a8 0 (nI 1)) 1 (nI 2) 0 = nI 1) = true := by
    rw [pk_un (by omega), pk_us]
    decide +kernel
  have q1 : decide (upd (upd a8 0 (nI 1)) 1 (nI 2) 1 = nI 1) = false := by
    rw [pk_us]
    decide +kernel
  refine nm_r (ht_at 0) (nm_r (e' := nI 1) (by decide +kernel) ⟨3, ht_pt_lo (i := 0) (by omega) h80 h3 h4 (by omega) h0 (by omega) (Nat.le_refl P) (w5 := nI 1) (by decide +kernel) (ht_pt_hi (i := 1) (by omega) (by rw [pk_un (by omega)]; exact h81) h3 h4 hQ h1 hPQ (ht_pt_out (by omega) hQ h0 h1 h6 ?_))⟩)
  rw [q0, q1, h70]
  exact ht_pend (by omega) c9 c10 (H _)
theorem ht_part_hi {post : St2 → Prop} {P Q : Nat} {x y : Int32} (hPQ : Q < P) (hP : P < 8) (h0 : a1 0 = nI (8 * P)) (h1 : a1 1 = nI (8 * Q)) (h3 : a3 0 = nI 1) (h4 : a4 0 = nI Q) (h6 : a6 0 = nI 2) (h70 : a7 0 = x) (h71 : a7 1 = y) (h80 : a8 0 = nI 0) (h81 : a8 1 = nI 0)
    (c9 : ∀ j, j < 24 → a9 (0 * 24 + j) = ht_c P 1 j + ht_c Q 1 j) (c10 : ∀ j, j < 24 → a10 (0 * 24 + j) = ht_c P x j + ht_c Q y j)
    (H : ∀ e8 e9 e10 : Nat → Int32, (∀ j, j < 24 → e9 (1 * 24 + j) = ht_c Q 1 j) → (∀ j, j < 24 → e10 (1 * 24 + j) = ht_c Q y j) → (∀ j, j < 24 → e9 (2 * 24 + j) = ht_c P 1 j) → (∀ j, j < 24 → e10 (2 * 24 + j) = ht_c P x j) → post (ls, nI 2, tr, bf, bb, bt, bB, a1, a2, a3, a4, a5, a6, a7, e8, e9, e10)) :
    wpX_part post (ls, nI 2, tr, bf, bb, bt, bB, a1, a2, a3, a4, a5, a6, a7, a8, a9, a10) 0 (nI 0) := by
  have q0 : decide (upd (upd a8 0 (nI 2)) 1 (nI 1) 0 = nI 1) = false := by
    rw [pk_un (by omega), pk_us]
    decide +kernel
  have q1 : decide (upd (upd a8 0 (nI 2)) 1 (nI 1) 1 = nI 1) = true := by
    rw [pk_us]
    decide +kernel
  refine nm_r (ht_at 0) (nm_r (e' := nI 1) (by decide +kernel) ⟨3, ht_pt_hi (i := 0) (by omega) h80 h3 h4 hP h0 hPQ (ht_pt_lo (i := 1) (by omega) (by rw [pk_un (by omega)]; exact h81) h3 h4 (by omega) h1 (by omega) (Nat.le_refl Q) (w5 := nI 1) (by decide +kernel) (ht_pt_out hP (by omega) h0 h1 h6 ?_))⟩)
  rw [q0, q1, h71]
  exact ht_pend (by omega) (fun j hj => by rw [c9 j hj, Int32.add_comm]) (fun j hj => by rw [c10 j hj, Int32.add_comm]) (H _)
/-- a node with one row: a leaf -/
theorem ht_grow_one {post : Int32 → St2 → Prop} {k M P : Nat} {x : Int32} (hk : k < 3) (h1 : 1 ≤ M) (h12 : M ≤ 12) (hP : P < 8) (b9 : ∀ j, j < 24 → a9 (k * 24 + j) = ht_c P 1 j) (b10 : ∀ j, j < 24 → a10 (k * 24 + j) = ht_c P x j)
    (H : post 1 (nI M, ct, tr, -1, bb, bt, bB, a1, a2, upd a3 k (-6), a4, upd a5 k x, upd a6 k (nI 1), a7, a8, a9, a10)) : wpX_grow post (nI M, ct, tr, bf, bb, bt, bB, a1, a2, a3, a4, a5, a6, a7, a8, a9, a10) 0 (nI k) := by
  have e : x / nI 1 = x := Int32.div_one
  refine ht_split_no (N := 1) (s := x) (G := fun f b => nI (ht_G1 P f b)) hk (by omega) (by omega) ?_ ?_ ?_ ?_ ?_ ?_ ?_ ?_
  · have t := b9 0 (by omega)
    rw [ht_c0] at t
    exact t
  · intro j h0 h8
    rw [b9 j (by omega), ht_cz P 1 h0 h8]
  · have t := b10 0 (by omega)
    rw [ht_c0] at t
    exact t
  · intro j h0 h8
    rw [b10 j (by omega), ht_cz P x h0 h8]
  · intro f hf
    exact ht_G1z P f
  · intro f hf b hb
    rw [Nat.add_assoc, b9 (f * 8 + b) (by omega)]
    exact ht_G1s P hP f hf b hb
  · intro f hf b hb
    exact ht_nc1 h1 h12 P f (b + 1)
  · rw [e]
    exact br_t rfl (br_t rfl H)
/-- node 0 with two rows that can't be parted: a leaf -/
theorem ht_grow_two {post : Int32 → St2 → Prop} {M P Q : Nat} {x y : Int32} (h1 : 1 ≤ M) (h12 : M ≤ 12) (hP : P < 8) (hQ : Q < 8) (hM : 2 ≤ M ∨ P = Q) (b9 : ∀ j, j < 24 → a9 (0 * 24 + j) = ht_c P 1 j + ht_c Q 1 j) (b10 : ∀ j, j < 24 → a10 (0 * 24 + j) = ht_c P x j + ht_c Q y j)
    (H : post 1 (nI M, ct, tr, -1, bb, bt, bB, a1, a2, upd a3 0 (-6), a4, upd a5 0 ((x + y) / nI 2), upd a6 0 (nI 2), a7, a8, a9, a10)) : wpX_grow post (nI M, ct, tr, bf, bb, bt, bB, a1, a2, a3, a4, a5, a6, a7, a8, a9, a10) 0 (nI 0) := by
  refine ht_split_no (k := 0) (N := 2) (s := x + y) (G := fun f b => nI (ht_G2 P Q f b)) (by omega) (by omega) (by omega) ?_ ?_ ?_ ?_ ?_ ?_ ?_ ?_
  · have t := b9 0 (by omega)
    rw [ht_c0, ht_c0] at t
    exact t
  · intro j h0 h8
    rw [b9 j (by omega), ht_cz P 1 h0 h8, ht_cz Q 1 h0 h8, Int32.add_zero]
  · have t := b10 0 (by omega)
    rw [ht_c0, ht_c0] at t
    exact t
  · intro j h0 h8
    rw [b10 j (by omega), ht_cz P x h0 h8, ht_cz Q y h0 h8, Int32.add_zero]
  · intro f hf
    exact ht_G2z P Q f
  · intro f hf b hb
    rw [Nat.add_assoc, b9 (f * 8 + b) (by omega)]
    exact ht_G2s P hP Q hQ f hf b hb
  · intro f hf b hb
    exact ht_nc2 h1 h12 P Q f (b + 1) (by omega)
  · exact br_t rfl (br_t rfl H)
/-- node 0 with two rows that can be parted (leaf size 1): parted or a leaf, as their rests differ or not; (L, u): the left row -/
theorem ht_split_two {post : Int32 → St2 → Prop} {P Q L R : Nat} {x y u v : Int32} (hP : P < 8) (hQ : Q < 8) (hx : -50 ≤ x.toInt ∧ x.toInt ≤ 50) (hy : -50 ≤ y.toInt ∧ y.toInt ≤ 50)
    (hc : (P < Q ∧ L = P ∧ R = Q ∧ u = x ∧ v = y) ∨ (Q < P ∧ L = Q ∧ R = P ∧ u = y ∧ v = x)) (b9 : ∀ j, j < 24 → a9 (0 * 24 + j) = ht_c P 1 j + ht_c Q 1 j) (b10 : ∀ j, j < 24 → a10 (0 * 24 + j) = ht_c P x j + ht_c Q y j)
    (Hno : x = y → post 0 (nI 1, ct, tr, nI 1, nI L, ht_top u (x + y), ht_bot, a1, a2, upd a3 0 (-6), a4, upd a5 0 ((x + y) / nI 2), upd a6 0 (nI 2), a7, a8, a9, a10))
    (Hyes : x ≠ y → post 1 (nI 1, ct, tr, nI 1, nI L, ht_top u (x + y), ht_bot, a1, a2, upd a3 0 (nI 1), upd a4 0 (nI L), upd a5 0 0, upd a6 0 (nI 2), a7, a8, a9, a10)) : wpX_splitNode post (nI 1, ct, tr, bf, bb, bt, bB, a1, a2, a3, a4, a5, a6, a7, a8, a9, a10) 0 (nI 0) := by
  have hsu : x + y = u + v := by
    rcases hc with ⟨_, _, _, h1, h2⟩ | ⟨_, _, _, h1, h2⟩
    · rw [h1, h2]
    · rw [h1, h2, Int32.add_comm]
  have hu : -50 ≤ u.toInt ∧ u.toInt ≤ 50 := by
    rcases hc with ⟨_, _, _, h1, h2⟩ | ⟨_, _, _, h1, h2⟩
    · rw [h1]; exact hx
    · rw [h1]; exact hy
  have hv : -50 ≤ v.toInt ∧ v.toInt ≤ 50 := by
    rcases hc with ⟨_, _, _, h1, h2⟩ | ⟨_, _, _, h1, h2⟩
    · rw [h2]; exact hy
    · rw [h2]; exact hx
  have huv : u ≠ v ↔ x ≠ y := by
    rcases hc with ⟨_, _, _, h1, h2⟩ | ⟨_, _, _, h1, h2⟩
    · rw [h1, h2]
    · rw [h1, h2]; exact ne_comm
  have hcmp := ht_cmp hu hv hsu
  refine ht_split_yes (L := L) (R := R) (s := x + y) (u := u) (G := fun f b => nI (ht_G2 P Q f b)) (T := ht_T2 P Q x y) (by omega) (by omega) ?_ ?_ ?_ ?_ ?_ ?_ ?_ ?_ ?_ ?_ ?_ ?_ ?_ ?_
  · have t := b9 0 (by omega)
    rw [ht_c0, ht_c0] at t
    exact t
  · intro j h0 h8
    rw [b9 j (by omega), ht_cz P 1 h0 h8, ht_cz Q 1 h0 h8, Int32.add_zero]
  · have t := b10 0 (by omega)
    rw [ht_c0, ht_c0] at t
    exact t
  · intro j h0 h8
    rw [b10 j (by omega), ht_cz P x h0 h8, ht_cz Q y h0 h8, Int32.add_zero]
  · intro f hf
    exact ht_G2z P Q f
  · intro f hf b hb
    rw [Nat.add_assoc, b9 (f * 8 + b) (by omega)]
    exact ht_G2s P hP Q hQ f hf b hb
  · show (if P < 0 then x else 0) + (if Q < 0 then y else 0) = 0
    rw [if_neg (by omega), if_neg (by omega), Int32.add_zero]
  · intro b hb
    rw [Nat.add_assoc, b10 (1 * 8 + b) (by omega)]
    exact ht_T2s P Q x y hb
  · intro f hf hf1 b hb
    exact ht_nc2 (by omega) (by omega) P Q f (b + 1) (Or.inr (Or.inr hf1))
  · intro b hb
    show nI (ht_G2 P Q 1 b) = nI 0
    unfold ht_G2
    rw [if_pos rfl, if_neg (by omega), if_neg (by omega)]
  · intro b hb hb2
    show nI (ht_G2 P Q 1 b) = nI 1 ∧ ht_T2 P Q x y b = u
    unfold ht_G2 ht_T2
    rcases hc with ⟨hl, h1, h2, h3, _⟩ | ⟨hl, h1, h2, h3, _⟩
    · rw [if_pos rfl, if_pos (show P < b by omega), if_neg (show ¬ Q < b by omega), if_pos (show P < b by omega), if_neg (show ¬ Q < b by omega), Int32.add_zero]
      exact ⟨rfl, h3.symm⟩
    · rw [if_pos rfl, if_neg (show ¬ P < b by omega), if_pos (show Q < b by omega), if_neg (show ¬ P < b by omega), if_pos (show Q < b by omega), Int32.zero_add]
      exact ⟨rfl, h3.symm⟩
  · intro b hb
    show nI (ht_G2 P Q 1 b) = nI 2
    unfold ht_G2
    rw [if_pos rfl, if_pos (by omega), if_pos (by omega)]
  · intro h
    refine Hno ?_
    by_cases e : x = y
    · exact e
    · exact absurd (hcmp.mpr (huv.mpr e)) h
  · intro h
    exact Hyes (huv.mp (hcmp.mp h))
end
end
section
/-! ===== 05: train ===== -/
def ht_fil (i : Nat) (v : Int32) (a : Nat → Int32) : Nat → Int32 := fun j => if j < i then v else a j
theorem ht_fil0 (v : Int32) (a : Nat → Int32) : ht_fil 0 v a = a := by
  funext j
  unfold ht_fil
  rw [if_neg (by omega)]
theorem ht_filS (i : Nat) (v : Int32) (a : Nat → Int32) : upd (ht_fil i v a) i v = ht_fil (i + 1) v a := by
  funext j
  by_cases h : j = i
  · subst h
    rw [pk_us]
    unfold ht_fil
    rw [if_pos (by omega)]
  · rw [pk_un h]
    unfold ht_fil
    by_cases h2 : j < i
    · rw [if_pos h2, if_pos (by omega)]
    · rw [if_neg h2, if_neg (by omega)]
theorem ht_fil_in {i j : Nat} {v : Int32} {a : Nat → Int32} (h : j < i) : ht_fil i v a j = v := by
  unfold ht_fil
  rw [if_pos h]
theorem ht_par : ∀ k, k < 7 → 1 ≤ k → (0 : Int32) * 7 + (nI k - 1) / 2 = nI ((k - 1) / 2) := by decide +kernel
theorem ht_m6 : (-6 : Int32) < 0 := by decide +kernel
theorem ht_m7 : (-7 : Int32) < 0 := by decide +kernel
section
variable {ls ct tr bf bb : Int32} {bt bB : Int64} {a1 a2 a3 a4 a5 a6 a7 a8 a9 a10 : Nat → Int32}
theorem ht_part {post : St2 → Prop} {P Q L R : Nat} {x y u v : Int32} (hP : P < 8) (hQ : Q < 8) (hc : (P < Q ∧ L = P ∧ R = Q ∧ u = x ∧ v = y) ∨ (Q < P ∧ L = Q ∧ R = P ∧ u = y ∧ v = x)) (h0 : a1 0 = nI (8 * P)) (h1 : a1 1 = nI (8 * Q)) (h3 : a3 0 = nI 1) (h4 : a4 0 = nI L) (h6 : a6 0 = nI 2) (h70 : a7 0 = x) (h71 : a7 1 = y) (h80 : a8 0 = nI 0) (h81 : a8 1 = nI 0)
    (c9 : ∀ j, j < 24 → a9 (0 * 24 + j) = ht_c P 1 j + ht_c Q 1 j) (c10 : ∀ j, j < 24 → a10 (0 * 24 + j) = ht_c P x j + ht_c Q y j)
    (H : ∀ e8 e9 e10 : Nat → Int32, (∀ j, j < 24 → e9 (1 * 24 + j) = ht_c L 1 j) → (∀ j, j < 24 → e10 (1 * 24 + j) = ht_c L u j) → (∀ j, j < 24 → e9 (2 * 24 + j) = ht_c R 1 j) → (∀ j, j < 24 → e10 (2 * 24 + j) = ht_c R v j) → post (ls, nI 2, tr, bf, bb, bt, bB, a1, a2, a3, a4, a5, a6, a7, e8, e9, e10)) :
    wpX_part post (ls, nI 2, tr, bf, bb, bt, bB, a1, a2, a3, a4, a5, a6, a7, a8, a9, a10) 0 (nI 0) := by
  rcases hc with ⟨hl, q1, q2, q3, q4⟩ | ⟨hl, q1, q2, q3, q4⟩
  · subst q1 q2 q3 q4
    exact ht_part_lo hl hQ h0 h1 h3 h4 h6 h70 h71 h80 h81 c9 c10 H
  · subst q1 q2 q3 q4
    exact ht_part_hi hl hP h0 h1 h3 h4 h6 h70 h71 h80 h81 c9 c10 H
theorem ht_rest0 {post : Int32 → Prop} {i : Nat} (hi : i < 24) (H : post (a2 i)) : wpX_restOf post (ls, ct, 0, bf, bb, bt, bB, a1, a2, a3, a4, a5, a6, a7, a8, a9, a10) (nI i) := by
  refine ⟨pk_in i 24 hi, 1, pk_le 0 0 (fun _ => ⟨pk_in i 24 hi, ?_⟩) (fun z => absurd z (by omega))⟩
  rw [nI_clamp (by omega), Int32.sub_zero]
  exact H
theorem ht_t18 {post : Int32 → St2 → Prop} {n i : Nat} (hi : i < 2) (H : wX_train_18 post 0 ls (nI 2) 0 bf bb bt bB n (nI (i + 1)) a1 a2 a3 a4 a5 a6 (upd a7 i (a2 i)) (upd a8 i (nI 0)) a9 a10) : wX_train_18 post 0 ls (nI 2) 0 bf bb bt bB (n + 1) (nI i) a1 a2 a3 a4 a5 a6 a7 a8 a9 a10 := by
  have ei : (nI i).toNatClampNeg = i := nI_clamp (by omega)
  exact pk_le 2 i (fun z => absurd z (by omega)) (fun _ => ht_rest0 (by omega) ⟨pk_in i 24 (by omega), nm_r (e' := upd a7 i (a2 i)) (by rw [ei]) ⟨pk_in i 24 (by omega), nm_r (e' := upd a8 i (nI 0)) (by rw [ei]; rfl) (nm_r (nI_1 i) H)⟩⟩)
theorem ht_t52 {post : Int32 → St2 → Prop} (H : wpX_fromRows (fun u => match u with | (ls, ct, tr, bf, bb, bt, bB, a1, a2, a3, a4, a5, a6, a7, a8, a9, a10) => ∃ fu110 : Nat, wX_train_110 post 0 fu110 0 0 ls ct tr bf bb bt bB a1 a2 a3 a4 a5 a6 a7 a8 a9 a10) (ls, ct, tr, bf, bb, bt, bB, a1, a2, ht_fil 7 (-7) a3, a4, ht_fil 7 0 a5, ht_fil 7 0 a6, a7, a8, a9, a10) 0) : ∃ fu, wX_train_52 post 0 ls ct tr bf bb bt bB fu 0 a1 a2 a3 a4 a5 a6 a7 a8 a9 a10 := by
  refine pk_loop (σ := (Nat → Int32) × (Nat → Int32) × (Nat → Int32)) (fun n i s => wX_train_52 post 0 ls ct tr bf bb bt bB n (nI i) a1 a2 s.1 a4 s.2.1 s.2.2 a7 a8 a9 a10) (fun i s => s.1 = ht_fil i (-7) a3 ∧ s.2.1 = ht_fil i 0 a5 ∧ s.2.2 = ht_fil i 0 a6) 7 0 (a3, a5, a6) (by omega) ⟨(ht_fil0 _ _).symm, (ht_fil0 _ _).symm, (ht_fil0 _ _).symm⟩ ?_ ?_
  · intro n s h
    obtain ⟨s1, s2, s3⟩ := s
    obtain ⟨p1, p2, p3⟩ := h
    dsimp only at p1 p2 p3
    subst p1 p2 p3
    exact pk_le 7 7 (fun _ => H) (fun z => absurd z (by omega))
  · intro n i s hi h hw
    obtain ⟨s1, s2, s3⟩ := s
    obtain ⟨p1, p2, p3⟩ := h
    dsimp only at p1 p2 p3
    have ec : ((0 : Int32) * 7 + nI i).toNatClampNeg = i := pk_cl i (ht_at i)
    have ic : vp_in ((0 : Int32) * 7 + nI i) 28 := pk_in i 28 (by omega) (ht_at i)
    have f3 : upd s1 ((0 : Int32) * 7 + nI i).toNatClampNeg (-7) = ht_fil (i + 1) (-7) a3 := by rw [ec, p1, ht_filS]
    have f5 : upd s2 ((0 : Int32) * 7 + nI i).toNatClampNeg 0 = ht_fil (i + 1) 0 a5 := by rw [ec, p2, ht_filS]
    have f6 : upd s3 ((0 : Int32) * 7 + nI i).toNatClampNeg 0 = ht_fil (i + 1) 0 a6 := by rw [ec, p3, ht_filS]
    exact pk_le 7 i (fun z => absurd z (by omega)) (fun _ => ⟨ic, nm_r f3 ⟨ic, nm_r f5 ⟨ic, nm_r f6 (nm_r (nI_1 i) (hw (_, _, _) ⟨rfl, rfl, rfl⟩))⟩⟩⟩)
/-- all that stands ahead of the last loop -/
theorem ht_train_pre {post : Int32 → St2 → Prop} {P Q : Nat} {x y : Int32} (hP : P < 8) (hQ : Q < 8) (h0 : a1 0 = nI (8 * P)) (h1 : a1 1 = nI (8 * Q)) (h20 : a2 0 = x) (h21 : a2 1 = y)
    (H : ∀ b3 b5 b6 b7 b8 b9 b10 : Nat → Int32, (∀ j, j < 7 → b3 j = -7) → (∀ j, j < 7 → b6 j = 0) → b7 0 = x → b7 1 = y → b8 0 = nI 0 → b8 1 = nI 0 → (∀ j, j < 24 → b9 (0 * 24 + j) = ht_c P 1 j + ht_c Q 1 j) → (∀ j, j < 24 → b10 (0 * 24 + j) = ht_c P x j + ht_c Q y j) → ∃ fu, wX_train_110 post 0 fu 0 0 ls (nI 2) 0 bf bb bt bB a1 a2 b3 a4 b5 b6 b7 b8 b9 b10) :
    wpX_train post (ls, nI 2, 0, bf, bb, bt, bB, a1, a2, a3, a4, a5, a6, a7, a8, a9, a10) := by
  have q0 : decide (upd (upd a8 0 (nI 0)) 1 (nI 0) 0 = nI 0) = true := by
    rw [pk_un (by omega), pk_us]
    decide +kernel
  have q1 : decide (upd (upd a8 0 (nI 0)) 1 (nI 0) 1 = nI 0) = true := by
    rw [pk_us]
    decide +kernel
  have g0 : upd (upd a7 0 (a2 0)) 1 (a2 1) 0 = x := by rw [pk_un (by omega), pk_us, h20]
  have g1 : upd (upd a7 0 (a2 0)) 1 (a2 1) 1 = y := by rw [pk_us, h21]
  refine br_t (by decide +kernel) ⟨3, ht_t18 (i := 0) (by omega) (ht_t18 (i := 1) (by omega) (pk_le 2 2 (fun _ => ht_t52 (ht_fromRows (k := 0) (by omega) hP hQ h0 h1 ?_)) (fun z => absurd z (by omega))))⟩
  rw [q0, q1, g0, g1]
  refine H _ _ _ _ _ _ _ (fun j hj => ht_fil_in hj) (fun j hj => ht_fil_in hj) g0 g1 ?_ ?_ ?_ ?_
  · rw [pk_un (by omega), pk_us]
  · rw [pk_us]
  · intro j hj
    show ht_add 0 Q 1 (ht_add 0 P 1 (ht_blk 0 24 (fun _ => 0) a9)) (0 * 24 + j) = _
    rw [ht_add_in, ht_add_in, ht_blk_in hj, Int32.zero_add]
  · intro j hj
    show ht_add 0 Q y (ht_add 0 P x (ht_blk 0 24 (fun _ => 0) a10)) (0 * 24 + j) = _
    rw [ht_add_in, ht_add_in, ht_blk_in hj, Int32.zero_add]
theorem ht_tr_skip {post : Int32 → St2 → Prop} {n k : Nat} {x2 : Int32} (h1 : 1 ≤ k) (h7 : k < 7) (h : a3 ((k - 1) / 2) < 0) (H : wX_train_110 post 0 n x2 (nI (k + 1)) ls ct tr bf bb bt bB a1 a2 a3 a4 a5 a6 a7 a8 a9 a10) : wX_train_110 post 0 (n + 1) x2 (nI k) ls ct tr bf bb bt bB a1 a2 a3 a4 a5 a6 a7 a8 a9 a10 := by
  have ix := ht_par k h7 h1
  have ec : ((0 : Int32) * 7 + (nI k - 1) / 2).toNatClampNeg = (k - 1) / 2 := pk_cl ((k - 1) / 2) ix
  exact pk_le 7 k (fun z => absurd z (by omega)) (fun _ => br_f (nI_ne0 (by omega) (by omega)) ⟨by decide +kernel, pk_in ((k - 1) / 2) 28 (by omega) ix, br_t (by rw [ec]; exact h) (br_t rfl (nm_r (nI_1 k) H))⟩)
theorem ht_tr_leaf {post : Int32 → St2 → Prop} {n k M P : Nat} {x x2 : Int32} (h1 : 1 ≤ k) (hk : k < 3) (h : ¬ a3 ((k - 1) / 2) < 0) (hM1 : 1 ≤ M) (hM : M ≤ 12) (hP : P < 8) (b9 : ∀ j, j < 24 → a9 (k * 24 + j) = ht_c P 1 j) (b10 : ∀ j, j < 24 → a10 (k * 24 + j) = ht_c P x j)
    (H : wX_train_110 post 0 n (x2 + 1) (nI (k + 1)) (nI M) ct tr (-1) bb bt bB a1 a2 (upd a3 k (-6)) a4 (upd a5 k x) (upd a6 k (nI 1)) a7 a8 a9 a10) : wX_train_110 post 0 (n + 1) x2 (nI k) (nI M) ct tr bf bb bt bB a1 a2 a3 a4 a5 a6 a7 a8 a9 a10 := by
  have ix := ht_par k (by omega) h1
  have ec : ((0 : Int32) * 7 + (nI k - 1) / 2).toNatClampNeg = (k - 1) / 2 := pk_cl ((k - 1) / 2) ix
  exact pk_le 7 k (fun z => absurd z (by omega)) (fun _ => br_f (nI_ne0 (by omega) (by omega)) ⟨by decide +kernel, pk_in ((k - 1) / 2) 28 (by omega) ix, br_f (by rw [ec]; exact h) (br_f (by decide +kernel) (ht_grow_one hk hM1 hM hP b9 b10 (nm_e (nm_r (nI_1 k) H))))⟩)
theorem ht_tr_end3 {post : Int32 → St2 → Prop} {x2 : Int32} (h1 : a3 1 < 0) (h2 : a3 2 < 0) (H : post x2 (ls, ct, nI 1, bf, bb, bt, bB, a1, a2, a3, a4, a5, a6, a7, a8, a9, a10)) : wX_train_110 post 0 5 x2 (nI 3) ls ct 0 bf bb bt bB a1 a2 a3 a4 a5 a6 a7 a8 a9 a10 :=
  ht_tr_skip (k := 3) (by omega) (by omega) h1 (ht_tr_skip (k := 4) (by omega) (by omega) h1 (ht_tr_skip (k := 5) (by omega) (by omega) h2 (ht_tr_skip (k := 6) (by omega) (by omega) h2 (pk_le 7 7 (fun _ => nm_r (e' := nI 1) (by decide +kernel) H) (fun z => absurd z (by omega))))))
theorem ht_tr_end1 {post : Int32 → St2 → Prop} {x2 : Int32} (h0 : a3 0 < 0) (h1 : a3 1 < 0) (h2 : a3 2 < 0) (H : post x2 (ls, ct, nI 1, bf, bb, bt, bB, a1, a2, a3, a4, a5, a6, a7, a8, a9, a10)) : wX_train_110 post 0 7 x2 (nI 1) ls ct 0 bf bb bt bB a1 a2 a3 a4 a5 a6 a7 a8 a9 a10 :=
  ht_tr_skip (k := 1) (by omega) (by omega) h0 (ht_tr_skip (k := 2) (by omega) (by omega) h0 (ht_tr_end3 h1 h2 H))
theorem ht_train_no {post : Int32 → St2 → Prop} {M P Q : Nat} {x y : Int32} (hM1 : 1 ≤ M) (hM : M ≤ 12) (hP : P < 8) (hQ : Q < 8) (hc : 2 ≤ M ∨ P = Q) (h0 : a1 0 = nI (8 * P)) (h1 : a1 1 = nI (8 * Q)) (h20 : a2 0 = x) (h21 : a2 1 = y)
    (H : ∀ (bf bb : Int32) (bt bB : Int64) (a3 a4 a5 a6 a7 a8 a9 a10 : Nat → Int32), a3 0 = -6 → a5 0 = (x + y) / nI 2 → a6 0 = nI 2 → a6 2 = 0 → post (nI 1) (nI M, nI 2, nI 1, bf, bb, bt, bB, a1, a2, a3, a4, a5, a6, a7, a8, a9, a10)) :
    wpX_train post (nI M, nI 2, 0, bf, bb, bt, bB, a1, a2, a3, a4, a5, a6, a7, a8, a9, a10) := by
  refine ht_train_pre hP hQ h0 h1 h20 h21 (fun b3 b5 b6 b7 b8 b9 b10 f3 f6 f70 f71 f80 f81 c9 c10 => ⟨8, ?_⟩)
  refine pk_le 7 0 (fun z => absurd z (by omega)) (fun _ => br_t rfl (br_f (by decide +kernel) (ht_grow_two hM1 hM hP hQ hc c9 c10 (nm_r (e' := nI 1) (by decide +kernel) (nm_r (e' := nI 1) (by decide +kernel) (ht_tr_end1 ?_ ?_ ?_ (H _ _ _ _ _ _ _ _ _ _ _ _ ?_ ?_ ?_ ?_)))))))
  · rw [pk_us]
    exact ht_m6
  · rw [pk_un (by omega), f3 1 (by omega)]
    exact ht_m7
  · rw [pk_un (by omega), f3 2 (by omega)]
    exact ht_m7
  · rw [pk_us]
  · rw [pk_us]
  · rw [pk_us]
  · rw [pk_un (by omega), f6 2 (by omega)]
theorem ht_train_yes {post : Int32 → St2 → Prop} {P Q L R : Nat} {x y u v : Int32} (hP : P < 8) (hQ : Q < 8) (hx : -50 ≤ x.toInt ∧ x.toInt ≤ 50) (hy : -50 ≤ y.toInt ∧ y.toInt ≤ 50)
    (hc : (P < Q ∧ L = P ∧ R = Q ∧ u = x ∧ v = y) ∨ (Q < P ∧ L = Q ∧ R = P ∧ u = y ∧ v = x)) (h0 : a1 0 = nI (8 * P)) (h1 : a1 1 = nI (8 * Q)) (h20 : a2 0 = x) (h21 : a2 1 = y)
    (Hno : x = y → ∀ (bf bb : Int32) (bt bB : Int64) (a3 a4 a5 a6 a7 a8 a9 a10 : Nat → Int32), a3 0 = -6 → a5 0 = (x + y) / nI 2 → a6 0 = nI 2 → a6 2 = 0 → post (nI 1) (nI 1, nI 2, nI 1, bf, bb, bt, bB, a1, a2, a3, a4, a5, a6, a7, a8, a9, a10))
    (Hyes : x ≠ y → ∀ (bf bb : Int32) (bt bB : Int64) (a3 a4 a5 a6 a7 a8 a9 a10 : Nat → Int32), a3 0 = nI 1 → a3 1 = -6 → a3 2 = -6 → a4 0 = nI L → a5 1 = u → a5 2 = v → a6 0 = nI 2 → a6 2 = nI 1 → post (nI 2) (nI 1, nI 2, nI 1, bf, bb, bt, bB, a1, a2, a3, a4, a5, a6, a7, a8, a9, a10)) :
    wpX_train post (nI 1, nI 2, 0, bf, bb, bt, bB, a1, a2, a3, a4, a5, a6, a7, a8, a9, a10) := by
  refine ht_train_pre hP hQ h0 h1 h20 h21 (fun b3 b5 b6 b7 b8 b9 b10 f3 f6 f70 f71 f80 f81 c9 c10 => ⟨8, ?_⟩)
  refine pk_le 7 0 (fun z => absurd z (by omega)) (fun _ => br_t rfl (br_f (by decide +kernel) (ht_split_two (u := u) (v := v) hP hQ hx hy hc c9 c10 (fun e => ?_) (fun e => ?_))))
  · refine br_t rfl (br_t rfl (nm_r (e' := nI 1) (by decide +kernel) (nm_r (e' := nI 1) (by decide +kernel) (ht_tr_end1 ?_ ?_ ?_ (Hno e _ _ _ _ _ _ _ _ _ _ _ _ ?_ ?_ ?_ ?_)))))
    · rw [pk_us]
      exact ht_m6
    · rw [pk_un (by omega), f3 1 (by omega)]
      exact ht_m7
    · rw [pk_un (by omega), f3 2 (by omega)]
      exact ht_m7
    · rw [pk_us]
    · rw [pk_us]
    · rw [pk_us]
    · rw [pk_un (by omega), f6 2 (by omega)]
  · have hL8 : L < 8 := by omega
    have hR8 : R < 8 := by omega
    refine br_f (by decide +kernel) (ht_part hP hQ hc h0 h1 pk_us pk_us pk_us f70 f71 f80 f81 c9 c10 (fun e8 e9 e10 g1 g2 g3 g4 => ?_))
    refine br_f (by decide +kernel) (nm_r (e' := nI 0) (by decide +kernel) (nm_r (e' := nI 1) (by decide +kernel) ?_))
    refine ht_tr_leaf (k := 1) (by omega) (by omega) ?_ (by omega) (by omega) hL8 g1 g2 (ht_tr_leaf (k := 2) (by omega) (by omega) ?_ (by omega) (by omega) hR8 g3 g4 (ht_tr_end3 ?_ ?_ (Hyes e _ _ _ _ _ _ _ _ _ _ _ _ ?_ ?_ ?_ ?_ ?_ ?_ ?_ ?_)))
    · show ¬ upd b3 0 (nI 1) 0 < 0
      rw [pk_us]
      decide +kernel
    · show ¬ upd (upd b3 0 (nI 1)) 1 (-6) 0 < 0
      rw [pk_un (by omega), pk_us]
      decide +kernel
    · rw [pk_un (by omega), pk_us]
      exact ht_m6
    · rw [pk_us]
      exact ht_m6
    · rw [pk_un (by omega), pk_un (by omega), pk_us]
    · rw [pk_un (by omega), pk_us]
    · rw [pk_us]
    · rw [pk_us]
    · rw [pk_un (by omega), pk_us]
    · rw [pk_us]
    · rw [pk_un (by omega), pk_un (by omega), pk_us]
    · rw [pk_us]
end
end
section
/-! ===== 06: questions to a trained tree (trees = 1, count = 2) ===== -/
section
variable {ls ct tr bf bb : Int32} {bt bB : Int64} {a1 a2 a3 a4 a5 a6 a7 a8 a9 a10 : Nat → Int32}
theorem ht_noNode {post : Int32 → Prop} {k : Nat} (hk : k < 7) (H : post 0) : wpX_noNode post (ls, ct, nI 1, bf, bb, bt, bB, a1, a2, a3, a4, a5, a6, a7, a8, a9, a10) 0 (nI k) :=
  br_f (by decide +kernel) (pk_le 1 0 (fun z => absurd z (by omega)) (fun _ => br_f (nI_pos (by omega)) (pk_lt k 7 (fun _ => H) (fun z => absurd z (by omega)))))
theorem ht_feature {post : Int32 → Prop} {v : Int32} (h : a3 0 = v) (H : post v) : wpX_feature post (ls, ct, nI 1, bf, bb, bt, bB, a1, a2, a3, a4, a5, a6, a7, a8, a9, a10) 0 0 := by
  have ec : ((0 : Int32) * 7 + 0).toNatClampNeg = 0 := by decide +kernel
  unfold wpX_feature
  refine ht_noNode (k := 0) (by omega) (br_t rfl ⟨pk_in 0 28 (by omega) (ht_at 0), ?_⟩)
  rw [ec, h]
  exact H
theorem ht_rows {post : Int32 → Prop} {k : Nat} {v : Int32} (hk : k < 7) (h : a6 k = v) (H : post v) : wpX_rows post (ls, ct, nI 1, bf, bb, bt, bB, a1, a2, a3, a4, a5, a6, a7, a8, a9, a10) 0 (nI k) := by
  have ec : ((0 : Int32) * 7 + nI k).toNatClampNeg = k := pk_cl k (ht_at k)
  unfold wpX_rows
  refine ht_noNode hk (br_t rfl ⟨pk_in k 28 (by omega) (ht_at k), ?_⟩)
  rw [ec, h]
  exact H
theorem ht_bound_no {post : Int32 → Prop} (h : a3 0 = -6) (H : post (-6)) : wpX_bound post (ls, ct, nI 1, bf, bb, bt, bB, a1, a2, a3, a4, a5, a6, a7, a8, a9, a10) 0 0 := by
  have ec : ((0 : Int32) * 7 + 0).toNatClampNeg = 0 := by decide +kernel
  unfold wpX_bound
  exact ht_noNode (k := 0) (by omega) (br_t rfl ⟨pk_in 0 28 (by omega) (ht_at 0), nm_r (e' := -6) (by rw [ec, h]) (br_f (by decide +kernel) H)⟩)
theorem ht_bound_yes {post : Int32 → Prop} {v : Int32} (h : a3 0 = nI 1) (h4 : a4 0 = v) (H : post v) : wpX_bound post (ls, ct, nI 1, bf, bb, bt, bB, a1, a2, a3, a4, a5, a6, a7, a8, a9, a10) 0 0 := by
  have ec : ((0 : Int32) * 7 + 0).toNatClampNeg = 0 := by decide +kernel
  unfold wpX_bound
  refine ht_noNode (k := 0) (by omega) (br_t rfl ⟨pk_in 0 28 (by omega) (ht_at 0), nm_r (e' := nI 1) (by rw [ec, h]) (br_t (by decide +kernel) ⟨pk_in 0 28 (by omega) (ht_at 0), ?_⟩)⟩)
  rw [ec, h4]
  exact H
/-- the tree's word on a row whose feature 1 is V: a leaf's value at node 0, or the one of node 1 or 2 -/
def ht_Q (a3 a4 a5 : Nat → Int32) (val : Nat → Int32) : Prop := (a3 0 < 0 ∧ ∀ V, a5 0 = val V) ∨ (∃ L, L < 8 ∧ a3 0 = nI 1 ∧ a3 1 < 0 ∧ a3 2 < 0 ∧ a4 0 = nI L ∧ ∀ V, V < 8 → (L < V → a5 2 = val V) ∧ (V ≤ L → a5 1 = val V))
theorem ht_by {post : Int32 → Prop} {V : Nat} {val : Nat → Int32} (hV : V < 8) (hq : ht_Q a3 a4 a5 val) (H : post (val V)) : wpX_predictBy post (ls, ct, tr, bf, bb, bt, bB, a1, a2, a3, a4, a5, a6, a7, a8, a9, a10) 0 (nI (8 * V)) := by
  have ec : ∀ k, k < 7 → ((0 : Int32) * 7 + nI k).toNatClampNeg = k := fun k hk => pk_cl k (ht_at k)
  have ic : ∀ k, k < 7 → vp_in ((0 : Int32) * 7 + nI k) 28 := fun k hk => pk_in k 28 (by omega) (ht_at k)
  have fin : ∀ k v, k < 7 → a5 k = v → post v → wX_predictBy_78 post 0 (nI k) ls ct tr bf bb bt bB a1 a2 a3 a4 a5 a6 a7 a8 a9 a10 := fun k v hk hv hp => ⟨ic k hk, by rw [ec k hk, hv]; exact hp⟩
  rcases hq with ⟨h3, h5⟩ | ⟨L, hL, h3, h31, h32, h4, hv⟩
  · have n0 : a3 ((0 : Int32) * 7 + nI 0).toNatClampNeg < 0 := by
      rw [ec 0 (by omega)]
      exact h3
    exact ⟨1, pk_le 2 0 (fun z => absurd z (by omega)) (fun _ => ⟨ic 0 (by omega), br_t n0 (fin 0 (val V) (by omega) (h5 V) H)⟩)⟩
  · have e0 : (nI 0).toNatClampNeg = 0 := nI_clamp (by omega)
    have e : (nI (8 * V) >>> ((3 * a3 (nI 0).toNatClampNeg) &&& 31)) &&& 7 = nI V := by
      rw [e0, h3]
      exact ht_ft V hV 1 (by omega)
    have e4 : a4 (nI 0).toNatClampNeg = nI L := by rw [e0, h4]
    have n0 : ¬ a3 ((0 : Int32) * 7 + nI 0).toNatClampNeg < 0 := by
      rw [ec 0 (by omega), h3]
      decide +kernel
    have n1 : a3 ((0 : Int32) * 7 + nI 1).toNatClampNeg < 0 := by
      rw [ec 1 (by omega)]
      exact h31
    have n2 : a3 ((0 : Int32) * 7 + nI 2).toNatClampNeg < 0 := by
      rw [ec 2 (by omega)]
      exact h32
    refine ⟨2, pk_le 2 0 (fun z => absurd z (by omega)) (fun _ => ⟨ic 0 (by omega), br_f n0 (nm_r (ht_at 0) ⟨pk_in 0 28 (by omega), ht_fo e ⟨pk_in 0 28 (by omega), pk_lt L V (fun z => ?_) (fun z => ?_) e4⟩⟩)⟩)⟩
    · exact nm_r (e' := nI 2) (by decide +kernel) (nm_r (e' := nI 1) (by decide +kernel) (pk_le 2 1 (fun z => absurd z (by omega)) (fun _ => ⟨ic 2 (by omega), br_t n2 (fin 2 (val V) (by omega) ((hv V hV).1 z) H)⟩)))
    · exact nm_r (e' := nI 1) (by decide +kernel) (nm_r (e' := nI 1) (by decide +kernel) (pk_le 2 1 (fun z => absurd z (by omega)) (fun _ => ⟨ic 1 (by omega), br_t n1 (fin 1 (val V) (by omega) ((hv V hV).2 z) H)⟩)))
theorem ht_all {post : Int32 → Prop} {V : Nat} {val : Nat → Int32} (hV : V < 8) (hq : ht_Q a3 a4 a5 val) (H : post (val V)) : wpX_predictAll post (ls, ct, nI 1, bf, bb, bt, bB, a1, a2, a3, a4, a5, a6, a7, a8, a9, a10) (nI (8 * V)) :=
  ⟨2, pk_le 1 0 (fun z => absurd z (by omega)) (fun _ => ht_by hV hq (nm_r (Int32.zero_add (val V)) (nm_r (e' := nI 1) (by decide +kernel) (pk_le 1 1 (fun _ => H) (fun z => absurd z (by omega))))))⟩
theorem ht_restOf {post : Int32 → Prop} {i V : Nat} {x : Int32} {val : Nat → Int32} (hi : i < 24) (hV : V < 8) (h1 : a1 i = nI (8 * V)) (h2 : a2 i = x) (hq : ht_Q a3 a4 a5 val) (H : post (x - val V)) : wpX_restOf post (ls, ct, nI 1, bf, bb, bt, bB, a1, a2, a3, a4, a5, a6, a7, a8, a9, a10) (nI i) := by
  have ei : (nI i).toNatClampNeg = i := nI_clamp (by omega)
  have e1 : a1 (nI i).toNatClampNeg = nI (8 * V) := by rw [ei, h1]
  refine ⟨pk_in i 24 hi, ?_⟩
  rw [e1]
  refine ht_all hV hq ⟨pk_in i 24 hi, ?_⟩
  rw [ei, h2]
  exact H
theorem ht_rest {post : Int32 → Prop} {i V : Nat} {x : Int32} {val : Nat → Int32} (hi : i < 2) (hV : V < 8) (h1 : a1 i = nI (8 * V)) (h2 : a2 i = x) (hq : ht_Q a3 a4 a5 val) (H : post (x - val V)) : wpX_rest post (ls, nI 2, nI 1, bf, bb, bt, bB, a1, a2, a3, a4, a5, a6, a7, a8, a9, a10) (nI i) :=
  br_f (nI_pos (by omega)) (pk_lt i 2 (fun _ => ht_restOf (by omega) hV h1 h2 hq H) (fun z => absurd z (by omega)))
theorem ht_loss {post : Int32 → Prop} {P Q : Nat} {x y : Int32} {val : Nat → Int32} (hP : P < 8) (hQ : Q < 8) (h0 : a1 0 = nI (8 * P)) (h1 : a1 1 = nI (8 * Q)) (h20 : a2 0 = x) (h21 : a2 1 = y) (hq : ht_Q a3 a4 a5 val) (H : post ((x - val P) * (x - val P) + (y - val Q) * (y - val Q))) : wpX_loss post (ls, nI 2, nI 1, bf, bb, bt, bB, a1, a2, a3, a4, a5, a6, a7, a8, a9, a10) :=
  ⟨3, pk_le 2 0 (fun z => absurd z (by omega)) (fun _ => ht_restOf (i := 0) (by omega) hP h0 h20 hq (nm_r (Int32.zero_add _) (nm_r (e' := nI 1) (by decide +kernel) (pk_le 2 1 (fun z => absurd z (by omega)) (fun _ => ht_restOf (i := 1) (by omega) hQ h1 h21 hq (nm_e (nm_r (e' := nI 2) (by decide +kernel) (pk_le 2 2 (fun _ => H) (fun z => absurd z (by omega)))))))))) ⟩
theorem ht_predict {post : Int32 → Prop} {val : Nat → Int32} (hq : ht_Q a3 a4 a5 val) (H : post (val 7)) : wpX_predict post (ls, ct, nI 1, bf, bb, bt, bB, a1, a2, a3, a4, a5, a6, a7, a8, a9, a10) 56 := by
  have e : (56 : Int32) &&& 511 = nI (8 * 7) := by decide +kernel
  unfold wpX_predict
  dsimp only
  rw [e]
  exact ht_all (by omega) hq H
/-! rows and the constructor -/
theorem ht_row {post : Int32 → St2 → Prop} {c P : Nat} {x : Int32} (hc : c < 24) (hP : P < 8) (hx : -50 ≤ x.toInt ∧ x.toInt ≤ 50) (H : post (nI (c + 1)) (ls, nI (c + 1), tr, bf, bb, bt, bB, upd a1 c (nI (8 * P)), upd a2 c x, a3, a4, a5, a6, a7, a8, a9, a10)) : wpX_row post (ls, nI c, tr, bf, bb, bt, bB, a1, a2, a3, a4, a5, a6, a7, a8, a9, a10) (nI P <<< ((3 : Int32) &&& 31)) x := by
  have ec : (nI c).toNatClampNeg = c := nI_clamp (by omega)
  have m1 : (-50 : Int32).toInt = -50 := by decide +kernel
  have m2 : (50 : Int32).toInt = 50 := by decide +kernel
  have b1 : ¬ x < (-50) := by
    rw [Int32.lt_iff_toInt_lt, m1]
    omega
  have b2 : x ≤ 50 := by
    rw [Int32.le_iff_toInt_le, m2]
    omega
  exact br_f b1 (br_t b2 (pk_lt c 24 (fun _ => ⟨pk_in c 24 hc, nm_r (e' := upd a1 c (nI (8 * P))) (by rw [ec, ht_sh P hP]) ⟨pk_in c 24 hc, nm_r (e' := upd a2 c x) (by rw [ec]) (nm_r (nI_1 c) H)⟩⟩) (fun z => absurd z (by omega))))
end
theorem ht_init {post : St2 → Prop} {p : Int32} (H : ∀ M, 1 ≤ M → M ≤ 12 → (1 < p → 2 ≤ M) → (¬ 1 < p → M = 1) → post (nI M, 0, 0, 0, 0, 0, 0, fun _ => 0, fun _ => 0, fun _ => 0, fun _ => 0, fun _ => 0, fun _ => 0, fun _ => 0, fun _ => 0, fun _ => 0, fun _ => 0)) : wpX_init post 10 544 (0, 0, 0, 0, 0, 0, 0) p := by
  have m1 : (1 : Int32).toInt = 1 := by decide +kernel
  have m12 : (12 : Int32).toInt = 12 := by decide +kernel
  have m0 : (0 : Int32).toInt = 0 := by decide +kernel
  refine ⟨by omega, by omega, by omega, by omega, by omega, by omega, by omega, by omega, by omega, by omega, by omega, by omega, by omega, by omega, by omega, by omega, by omega, by omega, by omega, by omega, br_c (fun h => br_c (fun h2 => ?_) (fun h2 => H 12 (by omega) (by omega) (fun _ => by omega) (fun z => absurd ?_ z))) (fun h => br_t (by decide +kernel) (H 1 (by omega) (by omega) (fun z => absurd ?_ h) (fun _ => rfl)))⟩
  · rw [Int32.le_iff_toInt_le, m1] at h
    rw [Int32.le_iff_toInt_le, m12] at h2
    obtain ⟨j, hj, e⟩ := nI_of (x := p) (by rw [Int32.lt_iff_toInt_lt, m0]; omega)
    subst e
    rw [nI_toInt hj] at h h2
    refine H j (by omega) (by omega) (fun z => ?_) (fun z => ?_)
    · rw [Int32.lt_iff_toInt_lt, m1, nI_toInt hj] at z
      omega
    · rw [Int32.lt_iff_toInt_lt, m1, nI_toInt hj] at z
      omega
  · rw [Int32.le_iff_toInt_le, m12] at h2
    rw [Int32.lt_iff_toInt_lt, m1]
    omega
  · rw [Int32.lt_iff_toInt_lt, m1] at z
    rw [Int32.le_iff_toInt_le, m1]
    omega
end
section
/-! ===== 07: the law behind the training ===== -/
section
variable {ls ct tr bf bb : Int32} {bt bB : Int64} {a1 a2 a3 a4 a5 a6 a7 a8 a9 a10 : Nat → Int32}
theorem ht_153_no {post : Int32 → St0 → Prop} {mc ms kc ks P Q : Nat} {x y z0 : Int32} (hP : P < 8) (hQ : Q < 8) (h0 : a1 0 = nI (8 * P)) (h1 : a1 1 = nI (8 * Q)) (h20 : a2 0 = x) (h21 : a2 1 = y) (h3 : a3 0 = -6) (h5 : a5 0 = (x + y) / 2) (h60 : a6 0 = 2) (h62 : a6 2 = 0) (H : post 1 ()) :
    wL_lawOf_153 post mc ms x y (nI P) (nI Q) 0 z0 kc ks ls (nI 2) (nI 1) bf bb bt bB a1 a2 a3 a4 a5 a6 a7 a8 a9 a10 := by
  have hq : ht_Q a3 a4 a5 (fun _ => (x + y) / 2) := Or.inl ⟨by rw [h3]; exact ht_m6, fun _ => h5⟩
  refine ht_bound_no h3 (br_t rfl (br_t rfl (ht_rows (k := 0) (by omega) h60 (br_t rfl (ht_rows (k := 2) (by omega) h62 (br_t rfl (br_t rfl ⟨by decide +kernel, nm_e (br_t rfl (br_t rfl ?_))⟩)))))))
  exact ht_rest (i := 0) (by omega) hP h0 h20 hq (br_t rfl (ht_rest (i := 1) (by omega) hQ h1 h21 hq (br_t rfl (ht_loss hP hQ h0 h1 h20 h21 hq (br_t rfl (ht_predict hq (br_t rfl (br_t rfl H))))))))
theorem ht_113_no {post : Int32 → St0 → Prop} {mc ms kc ks P Q : Nat} {x y : Int32} (hP : P < 8) (hQ : Q < 8) (h0 : a1 0 = nI (8 * P)) (h1 : a1 1 = nI (8 * Q)) (h20 : a2 0 = x) (h21 : a2 1 = y) (h3 : a3 0 = -6) (h5 : a5 0 = (x + y) / 2) (h60 : a6 0 = 2) (h62 : a6 2 = 0) (H : post 1 ()) :
    wL_lawOf_113 post mc ms x y (nI P) (nI Q) 0 1 (nI 1) kc ks ls (nI 2) (nI 1) bf bb bt bB a1 a2 a3 a4 a5 a6 a7 a8 a9 a10 :=
  br_t rfl (ht_feature h3 (br_t rfl (br_t rfl (br_c (fun _ => ht_153_no hP hQ h0 h1 h20 h21 h3 h5 h60 h62 H) (fun _ => ht_153_no hP hQ h0 h1 h20 h21 h3 h5 h60 h62 H)))))
theorem ht_one0 : ¬ (1 : Int32) = 0 := by decide +kernel
theorem ht_153_yes {post : Int32 → St0 → Prop} {mc ms kc ks P Q L R : Nat} {x y u v z0 : Int32} (hP : P < 8) (hQ : Q < 8) (hc : (P < Q ∧ L = P ∧ R = Q ∧ u = x ∧ v = y) ∨ (Q < P ∧ L = Q ∧ R = P ∧ u = y ∧ v = x)) (hz : z0 = nI L) (h0 : a1 0 = nI (8 * P)) (h1 : a1 1 = nI (8 * Q)) (h20 : a2 0 = x) (h21 : a2 1 = y) (h3 : a3 0 = nI 1) (h31 : a3 1 = -6) (h32 : a3 2 = -6) (h4 : a4 0 = nI L) (h51 : a5 1 = u) (h52 : a5 2 = v) (h60 : a6 0 = 2) (h62 : a6 2 = 1) (H : post 1 ()) :
    wL_lawOf_153 post mc ms x y (nI P) (nI Q) 1 z0 kc ks ls (nI 2) (nI 1) bf bb bt bB a1 a2 a3 a4 a5 a6 a7 a8 a9 a10 := by
  have hL8 : L < 7 := by omega
  have hq : ht_Q a3 a4 a5 (fun V => if L < V then v else u) := by
    refine Or.inr ⟨L, by omega, h3, by rw [h31]; exact ht_m6, by rw [h32]; exact ht_m6, h4, fun V hV => ⟨fun h => ?_, fun h => ?_⟩⟩
    · show a5 2 = if L < V then v else u
      rw [if_pos h, h52]
    · show a5 1 = if L < V then v else u
      rw [if_neg (by omega), h51]
  have rP : x - (if L < P then v else u) = 0 := by
    rcases hc with ⟨hl, q1, q2, q3, q4⟩ | ⟨hl, q1, q2, q3, q4⟩
    · rw [if_neg (by omega), q3, Int32.sub_self]
    · rw [if_pos (by omega), q4, Int32.sub_self]
  have rQ : y - (if L < Q then v else u) = 0 := by
    rcases hc with ⟨hl, q1, q2, q3, q4⟩ | ⟨hl, q1, q2, q3, q4⟩
    · rw [if_pos (by omega), q4, Int32.sub_self]
    · rw [if_neg (by omega), q3, Int32.sub_self]
  have r7 : (if L < 7 then v else u) = v := if_pos hL8
  refine ht_bound_yes h3 h4 (br_f ht_one0 (br_t hz.symm (ht_rows (k := 0) (by omega) h60 (br_t rfl (ht_rows (k := 2) (by omega) h62 (br_f ht_one0 (br_t rfl ⟨by decide +kernel, nm_e (br_f ht_one0 (br_f ht_one0 ?_))⟩)))))))
  refine ht_rest (i := 0) (by omega) hP h0 h20 hq (br_t rP (ht_rest (i := 1) (by omega) hQ h1 h21 hq (br_t rQ (ht_loss hP hQ h0 h1 h20 h21 hq (br_t ?_ (ht_predict hq (br_f ht_one0 ?_)))))))
  · show (x - (if L < P then v else u)) * (x - (if L < P then v else u)) + (y - (if L < Q then v else u)) * (y - (if L < Q then v else u)) = 0 * 0 + 0 * 0
    rw [rP, rQ]
  · rcases hc with ⟨hl, q1, q2, q3, q4⟩ | ⟨hl, q1, q2, q3, q4⟩
    · exact pk_le Q P (fun z => absurd z (by omega)) (fun _ => br_t (r7.trans q4) H)
    · exact pk_le Q P (fun _ => br_t (r7.trans q4) H) (fun z => absurd z (by omega))
theorem ht_113_yes {post : Int32 → St0 → Prop} {mc ms kc ks P Q L R : Nat} {x y u v : Int32} (hP : P < 8) (hQ : Q < 8) (hc : (P < Q ∧ L = P ∧ R = Q ∧ u = x ∧ v = y) ∨ (Q < P ∧ L = Q ∧ R = P ∧ u = y ∧ v = x)) (h0 : a1 0 = nI (8 * P)) (h1 : a1 1 = nI (8 * Q)) (h20 : a2 0 = x) (h21 : a2 1 = y) (h3 : a3 0 = nI 1) (h31 : a3 1 = -6) (h32 : a3 2 = -6) (h4 : a4 0 = nI L) (h51 : a5 1 = u) (h52 : a5 2 = v) (h60 : a6 0 = 2) (h62 : a6 2 = 1) (H : post 1 ()) :
    wL_lawOf_113 post mc ms x y (nI P) (nI Q) 1 2 (nI 2) kc ks ls (nI 2) (nI 1) bf bb bt bB a1 a2 a3 a4 a5 a6 a7 a8 a9 a10 := by
  refine br_t rfl (ht_feature h3 (br_f ht_one0 (br_t rfl ?_)))
  rcases hc with ⟨hl, q1, q2, q3, q4⟩ | ⟨hl, q1, q2, q3, q4⟩
  · exact pk_le Q P (fun z => absurd z (by omega)) (fun _ => ht_153_yes hP hQ (Or.inl ⟨hl, q1, q2, q3, q4⟩) (by rw [q1]) h0 h1 h20 h21 h3 h31 h32 h4 h51 h52 h60 h62 H)
  · exact pk_le Q P (fun _ => ht_153_yes hP hQ (Or.inr ⟨hl, q1, q2, q3, q4⟩) (by rw [q1]) h0 h1 h20 h21 h3 h31 h32 h4 h51 h52 h60 h62 H) (fun z => absurd z (by omega))
theorem ht_ends {P Q : Nat} (x y : Int32) (h : P ≠ Q) : ∃ (L R : Nat) (u v : Int32), (P < Q ∧ L = P ∧ R = Q ∧ u = x ∧ v = y) ∨ (Q < P ∧ L = Q ∧ R = P ∧ u = y ∧ v = x) := by
  rcases Nat.lt_or_gt_of_ne h with z | z
  · exact ⟨P, Q, x, y, Or.inl ⟨z, rfl, rfl, rfl, rfl⟩⟩
  · exact ⟨Q, P, y, x, Or.inr ⟨z, rfl, rfl, rfl, rfl⟩⟩
theorem ht_96_no {post : Int32 → St0 → Prop} {mc ms kc ks M P Q : Nat} {x y : Int32} (hM1 : 1 ≤ M) (hM : M ≤ 12) (hP : P < 8) (hQ : Q < 8) (hx : -50 ≤ x.toInt ∧ x.toInt ≤ 50) (hy : -50 ≤ y.toInt ∧ y.toInt ≤ 50) (hc : 2 ≤ M ∨ P = Q ∨ x = y) (h0 : a1 0 = nI (8 * P)) (h1 : a1 1 = nI (8 * Q)) (h20 : a2 0 = x) (h21 : a2 1 = y) (H : post 1 ()) :
    wL_lawOf_96 post mc ms x y (nI P) (nI Q) 0 kc ks (nI M) (nI 2) 0 bf bb bt bB a1 a2 a3 a4 a5 a6 a7 a8 a9 a10 := by
  by_cases hs : 2 ≤ M ∨ P = Q
  · exact ht_train_no hM1 hM hP hQ hs h0 h1 h20 h21 (fun _ _ _ _ _ _ _ _ _ _ _ _ f3 f5 f60 f62 => br_t rfl (ht_113_no hP hQ h0 h1 h20 h21 f3 f5 f60 f62 H))
  · have hM' : M = 1 := by omega
    have hxy : x = y := by
      rcases hc with z | z | z
      · exact absurd (Or.inl z) hs
      · exact absurd (Or.inr z) hs
      · exact z
    subst hM'
    obtain ⟨L, R, u, v, he⟩ := ht_ends x y (fun z => hs (Or.inr z))
    exact ht_train_yes hP hQ hx hy he h0 h1 h20 h21 (fun _ _ _ _ _ _ _ _ _ _ _ _ _ f3 f5 f60 f62 => br_t rfl (ht_113_no hP hQ h0 h1 h20 h21 f3 f5 f60 f62 H)) (fun z => absurd hxy z)
theorem ht_96_yes {post : Int32 → St0 → Prop} {mc ms kc ks P Q : Nat} {x y : Int32} (hP : P < 8) (hQ : Q < 8) (hx : -50 ≤ x.toInt ∧ x.toInt ≤ 50) (hy : -50 ≤ y.toInt ∧ y.toInt ≤ 50) (hPQ : P ≠ Q) (hxy : x ≠ y) (h0 : a1 0 = nI (8 * P)) (h1 : a1 1 = nI (8 * Q)) (h20 : a2 0 = x) (h21 : a2 1 = y) (H : post 1 ()) :
    wL_lawOf_96 post mc ms x y (nI P) (nI Q) 1 kc ks (nI 1) (nI 2) 0 bf bb bt bB a1 a2 a3 a4 a5 a6 a7 a8 a9 a10 := by
  obtain ⟨L, R, u, v, he⟩ := ht_ends x y hPQ
  exact ht_train_yes hP hQ hx hy he h0 h1 h20 h21 (fun z => absurd z hxy) (fun _ _ _ _ _ _ _ _ _ _ _ _ _ f3 f31 f32 f4 f51 f52 f60 f62 => br_f ht_one0 (ht_113_yes hP hQ he h0 h1 h20 h21 f3 f31 f32 f4 f51 f52 f60 f62 H))
end
theorem ht_lawOf {post : Int32 → St0 → Prop} (p0 p1 p2 p3 p4 : Int32) (H : post 1 ()) : wpL_lawOf post 304 4848 () p0 p1 p2 p3 p4 := by
  obtain ⟨P, hP, eP⟩ := pk_andE p0 (m := 7) 3 (by decide +kernel)
  obtain ⟨Q, hQ, eQ⟩ := pk_andE p1 (m := 7) 3 (by decide +kernel)
  refine ⟨by omega, by omega, 10, 544, by omega, by omega, ht_init (fun M hM1 hM hgt hle => ?_)⟩
  refine ⟨by decide +kernel, fun x ex => ⟨by decide +kernel, fun y ey => nm_r eP (nm_r eQ ?_)⟩⟩
  have hx : -50 ≤ x.toInt ∧ x.toInt ≤ 50 := by
    rw [ex]
    exact ht_bd p2
  have hy : -50 ≤ y.toInt ∧ y.toInt ≤ 50 := by
    rw [ey]
    exact ht_bd p3
  refine ht_row (c := 0) (by omega) hP hx (ht_row (c := 1) (by omega) hQ hy ?_)
  have h0 : upd (upd (fun _ => 0) 0 (nI (8 * P))) 1 (nI (8 * Q)) 0 = nI (8 * P) := by rw [pk_un (by omega), pk_us]
  have h1 : upd (upd (fun _ => 0) 0 (nI (8 * P))) 1 (nI (8 * Q)) 1 = nI (8 * Q) := by rw [pk_us]
  have h20 : upd (upd (fun _ => 0) 0 x) 1 y 0 = x := by rw [pk_un (by omega), pk_us]
  have h21 : upd (upd (fun _ => 0) 0 x) 1 y 1 = y := by rw [pk_us]
  refine br_c (fun z => ?_) (fun z => pk_eq P Q (fun e => ?_) (fun e => br_c (fun g => ?_) (fun g => ?_)))
  · exact ht_96_no hM1 hM hP hQ hx hy (Or.inl (hgt z)) h0 h1 h20 h21 H
  · exact ht_96_no hM1 hM hP hQ hx hy (Or.inr (Or.inl e)) h0 h1 h20 h21 H
  · exact ht_96_no hM1 hM hP hQ hx hy (Or.inr (Or.inr g)) h0 h1 h20 h21 H
  · have hM' := hle z
    subst hM'
    exact ht_96_yes hP hQ hx hy e g h0 h1 h20 h21 H
end
section
/-! ===== 08: what is owed ===== -/
theorem ht_cell {post : Int32 → Prop} {L : Nat} {xs : Nat → Int32} {u : St0} {k : Nat} (hL : L ≤ 5) (hk : k < 5) (H : ∀ v, post v) : wpL_cellAt post L xs u (nI k) :=
  pk_le L k (fun _ => H 0) (fun z => ⟨pk_in k L z, H _⟩)
theorem i_vc (xs : Nat → Int32) (L : Nat) (hL : L ≤ 5) : wpL_law (fun r => r = 1) L xs :=
  ht_cell (k := 0) hL (by omega) (fun r1 => ht_cell (k := 1) hL (by omega) (fun r2 => ht_cell (k := 2) hL (by omega) (fun r3 => ht_cell (k := 3) hL (by omega) (fun r4 => ht_cell (k := 4) hL (by omega) (fun r5 => ⟨304, 4848, by omega, by omega, ht_lawOf r1 r2 r3 r4 r5 rfl⟩)))))
end
