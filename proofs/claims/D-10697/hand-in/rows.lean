section
/-! places, narrowing, longs -/
theorem kd_ix6 (r i : Nat) : nI r * 6 + nI i = nI (r * 6 + i) := by
  show nI r * nI 6 + nI i = nI (r * 6 + i)
  rw [pk_mul, nI_add]
theorem kd_ix4 (r i : Nat) : nI r * 4 + nI i = nI (r * 4 + i) := by
  show nI r * nI 4 + nI i = nI (r * 4 + i)
  rw [pk_mul, nI_add]
theorem kd_ix4s (r i : Nat) : (nI r + 1) * 4 + nI i = nI ((r + 1) * 4 + i) := by
  rw [nI_1]
  exact kd_ix4 (r + 1) i
theorem kd_idL (f : Nat → Int64) (k : Nat) : vp_updL f k (f k) = f := by
  funext j
  unfold vp_updL
  by_cases h : j = k
  · rw [if_pos h, h]
  · rw [if_neg h]
theorem kd_b8 : ∀ n, n < 128 → (nI n).toInt8.toInt32 = nI n := by decide +kernel
theorem kd_b8s {n : Nat} (h : n < 127) : (nI n + 1).toInt8.toInt32 = nI (n + 1) := by
  rw [nI_1]
  exact kd_b8 (n + 1) (by omega)
theorem kd_nb {n : Nat} (h : n < 128) : vp_nar .byte (nI n) = nI n := by
  rw [vp_nar_byte]
  exact kd_b8 n h
theorem kd_l0 {n : Nat} (h0 : 0 < n) (h : n < 2 ^ 63) : ¬ lN n = 0 := fun z => by
  have t : n = 0 := (pk_lEQ h (b := 0) (by decide)).mp z
  omega
theorem kd_lge (n : Nat) (h : n < 2 ^ 63) : (0 : Int64) ≤ lN n := (pk_lLE (a := 0) (by decide) h).mpr (Nat.zero_le n)
theorem kd_lgt {n : Nat} (h0 : 0 < n) (h : n < 2 ^ 63) : ¬ lN n ≤ 0 := fun z => by
  have t : n ≤ 0 := (pk_lLE h (b := 0) (by decide)).mp z
  omega
theorem kd_m1 : (-1 : Int32) < 0 := by decide
theorem kd_m1' : ¬ (0 : Int32) ≤ -1 := by decide
/-! the system of equations: 4 rows of 6 longs -/
def kd_C (a : Nat → Int64) (M : Nat → Nat → Nat) : Prop := ∀ r, r < 4 → ∀ i, i < 6 → a (r * 6 + i) = lN (M r i)
theorem kd_C_cg {a : Nat → Int64} {M M' : Nat → Nat → Nat} (h : kd_C a M) (e : ∀ r, r < 4 → ∀ i, i < 6 → M r i = M' r i) : kd_C a M' := fun r hr i hi => by
  rw [h r hr i hi, e r hr i hi]
theorem kd_C_set {a : Nat → Int64} {M : Nat → Nat → Nat} {r i v : Nat} (h : kd_C a M) (hi : i < 6) : kd_C (vp_updL a (r * 6 + i) (lN v)) (fun r' i' => if r' = r ∧ i' = i then v else M r' i') := by
  intro r' hr' i' hi'
  show vp_updL a (r * 6 + i) (lN v) (r' * 6 + i') = lN (if r' = r ∧ i' = i then v else M r' i')
  by_cases e : r' = r ∧ i' = i
  · rw [if_pos e]
    obtain ⟨rfl, rfl⟩ := e
    exact pk_uLs
  · rw [if_neg e, pk_uLn (by omega)]
    exact h r' hr' i' hi'
/-- filled up to row b, place i -/
def kd_P (a : Nat → Int64) (M : Nat → Nat → Nat) (b i : Nat) : Prop := ∀ r, r < 4 → ∀ j, j < 6 → (r < b ∨ (r = b ∧ j < i)) → a (r * 6 + j) = lN (M r j)
theorem kd_P_0 {a : Nat → Int64} {M : Nat → Nat → Nat} : kd_P a M 0 0 := fun r _ j _ h => absurd h (by omega)
theorem kd_P_n {a : Nat → Int64} {M : Nat → Nat → Nat} {b : Nat} (h : kd_P a M b 6) : kd_P a M (b + 1) 0 := fun r hr j hj _ => h r hr j hj (by omega)
theorem kd_P_C {a : Nat → Int64} {M : Nat → Nat → Nat} (h : kd_P a M 4 0) : kd_C a M := fun r hr j hj => h r hr j hj (by omega)
theorem kd_P_set {a : Nat → Int64} {M : Nat → Nat → Nat} {b i : Nat} {v : Int64} (h : kd_P a M b i) (hi : i < 6) (hv : v = lN (M b i)) : kd_P (vp_updL a (b * 6 + i) v) M b (i + 1) := by
  intro r hr j hj hc
  by_cases e : r = b ∧ j = i
  · obtain ⟨rfl, rfl⟩ := e
    rw [pk_uLs]
    exact hv
  · rw [pk_uLn (by omega)]
    exact h r hr j hj (by omega)
/-! products of the pivots but one -/
def kd_pr (d : Nat → Nat) (r : Nat) : Nat → Nat
  | 0 => 1
  | c + 1 => kd_pr d r c * (if c = r then 1 else d c)
theorem kd_pr_n {d : Nat → Nat} {r c : Nat} (h : c ≠ r) : kd_pr d r (c + 1) = kd_pr d r c * d c := by
  show kd_pr d r c * (if c = r then 1 else d c) = _
  rw [if_neg h]
theorem kd_pr_s {d : Nat → Nat} {c : Nat} : kd_pr d c (c + 1) = kd_pr d c c := by
  show kd_pr d c c * (if c = c then 1 else d c) = _
  rw [if_pos rfl, Nat.mul_one]
theorem kd_pr_any {d : Nat → Nat} {r r' : Nat} : ∀ c, c ≤ r → c ≤ r' → kd_pr d r c = kd_pr d r' c
  | 0, _, _ => rfl
  | c + 1, h, h' => by rw [kd_pr_n (r := r) (by omega), kd_pr_n (r := r') (by omega), kd_pr_any (r := r) (r' := r') c (by omega) (by omega)]
theorem kd_pr_up {d : Nat → Nat} {c : Nat} : kd_pr d (c + 1) (c + 1) = kd_pr d c c * d c := by
  rw [kd_pr_n (by omega), kd_pr_any c (Nat.le_succ c) (Nat.le_refl c)]
theorem kd_pr_pos {d : Nat → Nat} {r : Nat} (hd : ∀ j, j < 4 → 0 < d j) : ∀ c, c ≤ 4 → 0 < kd_pr d r c
  | 0, _ => Nat.one_pos
  | c + 1, h => by
    refine Nat.mul_pos (kd_pr_pos hd c (by omega)) ?_
    split
    · exact Nat.one_pos
    · exact hd c (by omega)
theorem kd_pr_leP {d : Nat → Nat} {r : Nat} (hd : ∀ j, j < 4 → d j ≤ 20) : ∀ c, c ≤ 4 → kd_pr d r c ≤ 20 ^ c
  | 0, _ => Nat.le_refl 1
  | c + 1, h => by
    rw [Nat.pow_succ]
    refine Nat.mul_le_mul (kd_pr_leP hd c (by omega)) ?_
    split
    · omega
    · exact hd c (by omega)
theorem kd_pr_le {d : Nat → Nat} {r c : Nat} (hd : ∀ j, j < 4 → d j ≤ 20) (hc : c ≤ 4) : kd_pr d r c ≤ 160000 :=
  Nat.le_trans (kd_pr_leP hd c hc) (Nat.le_trans (Nat.pow_le_pow_right (by omega) hc) (by decide))
theorem kd_pr_allP {d : Nat → Nat} {j : Nat} : ∀ c, j < c → c ≤ 4 → kd_pr d 4 c = kd_pr d j c * d j
  | 0, h, _ => absurd h (by omega)
  | c + 1, h, h4 => by
    by_cases e : c = j
    · rw [e, kd_pr_s, kd_pr_n (by omega), kd_pr_any j (by omega) (Nat.le_refl j)]
    · rw [kd_pr_n (by omega), kd_pr_n e, kd_pr_allP (j := j) c (by omega) (by omega)]
      exact Nat.mul_right_comm _ _ _
theorem kd_pr_all {d : Nat → Nat} {j : Nat} (hj : j < 4) : kd_pr d 4 4 = kd_pr d j 4 * d j := kd_pr_allP 4 hj (Nat.le_refl 4)
/-- what the reducing rests on: d the pivots, B t the system before column t, row r over the product of the pivots before t but its own -/
def kd_R (d : Nat → Nat) (B : Nat → Nat → Nat → Nat) : Prop :=
  (∀ r, r < 4 → 0 < d r ∧ d r ≤ 20) ∧ (∀ c r i, r < 4 → i < 6 → B c r i ≤ 20) ∧ (∀ c, c < 4 → B c c c = d c) ∧
  (∀ c r i, c < 4 → r < 4 → r ≠ c → i < 6 → B (c + 1) r i * d c + B c r c * B c c i = B c r i * d c) ∧
  (∀ c i, c < 4 → i < 6 → B (c + 1) c i = B c c i)
end
section
section
variable {fR fM : Int32} {fD fP : Int64} {fB : Int32} {a1 a2 a3 a4 : Nat → Int32} {a5 a6 a7 a8 a9 : Nat → Int64} {a10 a11 a12 a13 a14 : Nat → Int32}
theorem kd_swap {post : St2 → Prop} {c : Nat} (hc : c < 4) (H : post (fR, fM, fD, fP, fB, a1, a2, a3, a4, a5, a6, a7, a8, a9, a10, a11, a12, a13, a14)) : wpX_swapRows post (fR, fM, fD, fP, fB, a1, a2, a3, a4, a5, a6, a7, a8, a9, a10, a11, a12, a13, a14) (nI c) (nI c) := by
  unfold wpX_swapRows
  exact pk_loop (σ := Unit) (fun n i _ => wX_swapRows_2 post (nI c) (nI c) fR fM fD fP fB n (nI i) a1 a2 a3 a4 a5 a6 a7 a8 a9 a10 a11 a12 a13 a14) (fun _ _ => True) 6 0 () (by omega) trivial
    (fun n _ _ => pk_le 6 6 (fun _ => H) (fun z => absurd z (by omega)))
    (fun n i _ hi _ hw => pk_le 6 i (fun z => absurd z (by omega)) (fun _ => ⟨pk_in (c * 6 + i) 24 (by omega) (kd_ix6 c i), nm_e ⟨pk_in (c * 6 + i) 24 (by omega) (kd_ix6 c i), pk_in (c * 6 + i) 24 (by omega) (kd_ix6 c i), nm_r (kd_idL _ _) ⟨pk_in (c * 6 + i) 24 (by omega) (kd_ix6 c i), nm_r (kd_idL _ _) (nm_r (nI_1 i) (hw () trivial))⟩⟩⟩))
theorem kd_combine {post : St2 → Prop} {M : Nat → Nat → Nat} {N : Nat → Nat} {r c p b : Nat} (hr : r < 4) (hc : c < 4) (hrc : r ≠ c) (hb0 : 0 < b) (hb : b < 2 ^ 63)
    (hM : kd_C a5 M) (hN : ∀ i, i < 6 → N i * b + M r c * M c i = M r i * p) (hbd : ∀ i, i < 6 → M r i * p < 2 ^ 63)
    (H : ∀ s, kd_C s (fun r' i => if r' = r then N i else M r' i) → post (fR, fM, fD, fP, fB, a1, a2, a3, a4, s, a6, a7, a8, a9, a10, a11, a12, a13, a14)) : wpX_combine post (fR, fM, fD, fP, fB, a1, a2, a3, a4, a5, a6, a7, a8, a9, a10, a11, a12, a13, a14) (nI r) (nI c) (lN p) (lN b) := by
  unfold wpX_combine
  refine ⟨pk_in (r * 6 + c) 24 (by omega) (kd_ix6 r c), nm_r (e' := lN (M r c)) ?_ ?_⟩
  · rw [kd_ix6, nI_clamp (by omega)]
    exact hM r hr c (by omega)
  · refine pk_loop (fun n i s => wX_combine_16 post (nI r) (nI c) (lN p) (lN b) (lN (M r c)) fR fM fD fP fB n (nI i) a1 a2 a3 a4 s a6 a7 a8 a9 a10 a11 a12 a13 a14) (fun i s => kd_C s (fun r' i' => if r' = r ∧ i' < i then N i' else M r' i')) 6 0 a5 (by omega) (kd_C_cg hM (fun r' _ i' _ => (if_neg (by omega)).symm)) ?_ ?_
    · intro n s hs
      refine pk_le 6 6 (fun _ => H s (kd_C_cg hs ?_)) (fun z => absurd z (by omega))
      intro r' _ i' hi'
      by_cases e : r' = r
      · rw [if_pos ⟨e, hi'⟩, if_pos e]
      · rw [if_neg (fun t => e t.1), if_neg e]
    · intro n i s hi hs hw
      have e1 : s (r * 6 + i) = lN (M r i) := (hs r hr i hi).trans (congrArg lN (if_neg (by omega)))
      have e2 : s (c * 6 + i) = lN (M c i) := (hs c hc i hi).trans (congrArg lN (if_neg (fun t => hrc t.1.symm)))
      have e3 : lN (M r i) * lN p - lN (M r c) * lN (M c i) = lN (N i * b) := by
        rw [lN_mul, lN_mul, lN_sub (by have := hN i hi; omega)]
        have := hN i hi
        exact congrArg lN (by omega)
      have e4 : lN (N i * b) / lN b = lN (N i) := by
        have := hN i hi
        have := hbd i hi
        rw [pk_lDiv (by omega) hb0 hb, Nat.mul_div_cancel _ hb0]
      refine pk_le 6 i (fun z => absurd z (by omega)) (fun _ => ⟨pk_in (r * 6 + i) 24 (by omega) (kd_ix6 r i), pk_in (c * 6 + i) 24 (by omega) (kd_ix6 c i), nm_r (e' := lN (N i * b)) ?_ (br_f (kd_l0 hb0 hb) ⟨kd_l0 hb0 hb, pk_in (r * 6 + i) 24 (by omega) (kd_ix6 r i), nm_r (e' := vp_updL s (r * 6 + i) (lN (N i))) ?_ (nm_r (nI_1 i) (hw _ (kd_C_cg (kd_C_set hs hi) ?_)))⟩)⟩)
      · rw [kd_ix6, kd_ix6, nI_clamp (by omega), nI_clamp (by omega), e1, e2]
        exact e3
      · rw [kd_ix6, nI_clamp (by omega), e4]
      · intro r' _ i' _
        by_cases e : r' = r
        · by_cases g : i' = i
          · rw [if_pos ⟨e, g⟩, if_pos ⟨e, by omega⟩, g]
          · rw [if_neg (fun t => g t.2)]
            by_cases g2 : i' < i
            · rw [if_pos ⟨e, g2⟩, if_pos ⟨e, by omega⟩]
            · rw [if_neg (fun t => g2 t.2), if_neg (fun t => by omega)]
        · rw [if_neg (fun t => e t.1), if_neg (fun t => e t.1), if_neg (fun t => e t.1)]
theorem kd_redB {d : Nat → Nat} {B : Nat → Nat → Nat → Nat} (hR : kd_R d B) {c r i e : Nat} (hc : c ≤ 4) (he : e ≤ 4) (hr : r < 4) (hi : i < 6) : kd_pr d r c * B c r i * kd_pr d e e < 2 ^ 63 := by
  have h1 := kd_pr_le (r := r) (fun j hj => (hR.1 j hj).2) hc
  have h2 := kd_pr_le (r := e) (fun j hj => (hR.1 j hj).2) he
  have h3 := hR.2.1 c r i hr hi
  exact Nat.lt_of_le_of_lt (Nat.mul_le_mul (Nat.mul_le_mul h1 h3) h2) (by decide)
theorem kd_red72 {post : Int32 → St2 → Prop} {J : Int64 → Int32 → Int32 → Int32 → Int64 → Int64 → Int32 → (Nat → Int32) → (Nat → Int32) → (Nat → Int32) → (Nat → Int32) → (Nat → Int64) → (Nat → Int64) → (Nat → Int64) → (Nat → Int64) → (Nat → Int64) → (Nat → Int32) → (Nat → Int32) → (Nat → Int32) → (Nat → Int32) → (Nat → Int32) → Prop}
    {d : Nat → Nat} {B : Nat → Nat → Nat → Nat} {c : Nat} (hc : c < 4) (hR : kd_R d B) (hs : kd_C a5 (fun r i => kd_pr d r c * B c r i))
    (H : ∀ s, kd_C s (fun r i => kd_pr d r (c + 1) * B (c + 1) r i) → J (lN (kd_pr d (c + 1) (c + 1))) (nI (c + 1)) fR fM fD fP fB a1 a2 a3 a4 s a6 a7 a8 a9 a10 a11 a12 a13 a14) :
    ∃ n, wX_reduce_72 post J (lN (kd_pr d c c)) (nI c) (lN (kd_pr d (c + 1) (c + 1))) n 0 fR fM fD fP fB a1 a2 a3 a4 a5 a6 a7 a8 a9 a10 a11 a12 a13 a14 := by
  obtain ⟨hd, hB, hg, hst, hsm⟩ := id hR
  have hpos : 0 < kd_pr d c c := kd_pr_pos (fun j hj => (hd j hj).1) c (by omega)
  have hle : kd_pr d c c ≤ 160000 := kd_pr_le (fun j hj => (hd j hj).2) (by omega)
  refine pk_loop (fun n r s => wX_reduce_72 post J (lN (kd_pr d c c)) (nI c) (lN (kd_pr d (c + 1) (c + 1))) n (nI r) fR fM fD fP fB a1 a2 a3 a4 s a6 a7 a8 a9 a10 a11 a12 a13 a14) (fun r s => kd_C s (fun r' i => if r' < r then kd_pr d r' (c + 1) * B (c + 1) r' i else kd_pr d r' c * B c r' i)) 4 0 a5 (by omega) (kd_C_cg hs (fun r' _ i _ => (if_neg (by omega)).symm)) ?_ ?_
  · intro n s h
    exact pk_le 4 4 (fun _ => nm_r (nI_1 c) (H s (kd_C_cg h (fun r' hr' i _ => if_pos hr')))) (fun z => absurd z (by omega))
  · intro n r s hr h hw
    refine pk_le 4 r (fun z => absurd z (by omega)) (fun _ => pk_eq r c (fun e => ?_) (fun e => ?_))
    · refine nm_r (nI_1 r) (hw s (kd_C_cg h ?_))
      intro r' _ i hi
      by_cases e1 : r' < r
      · rw [if_pos e1, if_pos (by omega)]
      · rw [if_neg e1]
        by_cases e2 : r' = r
        · rw [if_pos (by omega), e2, e, kd_pr_s, hsm c i hc hi]
        · rw [if_neg (by omega)]
    · refine kd_combine (N := fun i => kd_pr d r (c + 1) * B (c + 1) r i) hr hc e hpos (by omega) h ?_ ?_ ?_
      · intro i hi
        have t : (if c < r then kd_pr d c (c + 1) * B (c + 1) c i else kd_pr d c c * B c c i) = kd_pr d c c * B c c i := by
          by_cases g : c < r
          · rw [if_pos g, kd_pr_s, hsm c i hc hi]
          · rw [if_neg g]
        have u := hst c r i hc hr e hi
        show kd_pr d r (c + 1) * B (c + 1) r i * kd_pr d c c + (if r < r then kd_pr d r (c + 1) * B (c + 1) r c else kd_pr d r c * B c r c) * (if c < r then kd_pr d c (c + 1) * B (c + 1) c i else kd_pr d c c * B c c i) = (if r < r then kd_pr d r (c + 1) * B (c + 1) r i else kd_pr d r c * B c r i) * kd_pr d (c + 1) (c + 1)
        rw [t, if_neg (Nat.lt_irrefl r), if_neg (Nat.lt_irrefl r), kd_pr_n (fun z => e z.symm), kd_pr_up]
        have v := congrArg (fun x => kd_pr d r c * kd_pr d c c * x) u
        rw [Nat.mul_add] at v
        grind
      · intro i hi
        show (if r < r then kd_pr d r (c + 1) * B (c + 1) r i else kd_pr d r c * B c r i) * kd_pr d (c + 1) (c + 1) < 2 ^ 63
        rw [if_neg (Nat.lt_irrefl r)]
        exact kd_redB hR (by omega) (by omega) hr hi
      · intro s' h'
        refine nm_r (nI_1 r) (hw s' (kd_C_cg h' ?_))
        intro r' _ i _
        by_cases e1 : r' = r
        · rw [if_pos e1, if_pos (by omega), e1]
        · rw [if_neg e1]
          by_cases e2 : r' < r
          · rw [if_pos e2, if_pos (by omega)]
          · rw [if_neg e2, if_neg (by omega)]
theorem kd_reduce {post : Int32 → St2 → Prop} {d : Nat → Nat} {B : Nat → Nat → Nat → Nat} (hR : kd_R d B) (h0 : kd_C a5 (B 0))
    (H : ∀ s, kd_C s (fun r i => kd_pr d r 4 * B 4 r i) → post 1 (fR, fM, lN (kd_pr d 4 4), fP, fB, a1, a2, a3, a4, s, a6, a7, a8, a9, a10, a11, a12, a13, a14)) : wpX_reduce post (fR, fM, fD, fP, fB, a1, a2, a3, a4, a5, a6, a7, a8, a9, a10, a11, a12, a13, a14) := by
  obtain ⟨hd, hB, hg, hst, hsm⟩ := id hR
  have hle : ∀ c, c ≤ 4 → kd_pr d c c < 2 ^ 63 := fun c hc => Nat.lt_of_le_of_lt (kd_pr_le (fun j hj => (hd j hj).2) hc) (by decide)
  unfold wpX_reduce
  refine pk_loop (fun n c s => wX_reduce_4 post n (lN (kd_pr d c c)) (nI c) fR fM fD fP fB a1 a2 a3 a4 s a6 a7 a8 a9 a10 a11 a12 a13 a14) (fun c s => kd_C s (fun r i => kd_pr d r c * B c r i)) 4 0 a5 (by omega) (kd_C_cg h0 (fun r _ i _ => (Nat.one_mul _).symm)) ?_ ?_
  · intro n s hs
    have g := kd_lge (kd_pr d 4 4) (hle 4 (by omega))
    exact pk_le 4 4 (fun _ => br_t g ⟨0 + 1, pk_le 24 0 (fun z => absurd z (by omega)) (fun _ => br_t g (H s hs))⟩) (fun z => absurd z (by omega))
  · intro n c s hc hs hw
    have e1 : s (c * 6 + c) = lN (kd_pr d (c + 1) (c + 1)) := by
      rw [hs c hc c (by omega)]
      show lN (kd_pr d c c * B c c c) = _
      rw [hg c hc, kd_pr_up]
    have e2 : s ((nI c * 6) + nI c).toNatClampNeg = lN (kd_pr d (c + 1) (c + 1)) := by
      rw [kd_ix6, nI_clamp (by omega)]
      exact e1
    have hpos : 0 < kd_pr d (c + 1) (c + 1) := kd_pr_pos (fun j hj => (hd j hj).1) (c + 1) (by omega)
    refine pk_le 4 c (fun z => absurd z (by omega)) (fun _ => ⟨0 + 1, pk_le 4 c (fun z => absurd z (by omega)) (fun _ => ⟨pk_in (c * 6 + c) 24 (by omega) (kd_ix6 c c), br_f (by rw [e2]; exact kd_l0 hpos (hle (c + 1) (by omega))) ?_⟩)⟩)
    unfold wX_reduce_41
    refine pk_eq c 4 (fun z => absurd z (by omega)) (fun _ => kd_swap hc ?_)
    exact ⟨pk_in (c * 6 + c) 24 (by omega) (kd_ix6 c c), nm_r e2 (kd_red72 hc hR hs hw)⟩
end
end
section
section
variable {fR fM : Int32} {fD fP : Int64} {fB : Int32} {a1 a2 a3 a4 : Nat → Int32} {a5 a6 a7 a8 a9 : Nat → Int64} {a10 a11 a12 a13 a14 : Nat → Int32}
theorem kd_price9 {post : Int32 → St2 → Prop} {J : Int32 → (Nat → Int32) → (Nat → Int32) → (Nat → Int32) → (Nat → Int32) → (Nat → Int64) → (Nat → Int64) → (Nat → Int64) → (Nat → Int64) → (Nat → Int64) → (Nat → Int32) → (Nat → Int32) → (Nat → Int32) → (Nat → Int32) → (Nat → Int32) → Prop}
    {M : Nat → Nat → Nat} {b : Nat} (hb : b < 4) (hM : ∀ i, i < 4 → M b i ≤ 20 ∧ a4 (b * 4 + i) = nI (M b i)) (h4 : M b 4 = 1) (h5 : M b 5 = 0) (hs : kd_P a5 M b 0)
    (H : ∀ s, kd_P s M (b + 1) 0 → J (nI (b + 1)) a1 a2 a3 a4 s a6 a7 a8 a9 a10 a11 a12 a13 a14) : ∃ n, wX_priceBasis_9 post J (nI b) fR fM fD fP fB n 0 a1 a2 a3 a4 a5 a6 a7 a8 a9 a10 a11 a12 a13 a14 := by
  refine pk_loop (fun n i s => wX_priceBasis_9 post J (nI b) fR fM fD fP fB n (nI i) a1 a2 a3 a4 s a6 a7 a8 a9 a10 a11 a12 a13 a14) (fun i s => kd_P s M b i) 4 0 a5 (by omega) hs ?_ ?_
  · intro n s h
    refine pk_le 4 4 (fun _ => ⟨pk_in (b * 6 + 4) 24 (by omega) (kd_ix6 b 4), nm_r (e' := vp_updL s (b * 6 + 4) 1) ?_ ⟨pk_in (b * 6 + 5) 24 (by omega) (kd_ix6 b 5), nm_r (e' := vp_updL (vp_updL s (b * 6 + 4) 1) (b * 6 + 5) 0) ?_ (nm_r (nI_1 b) (H _ (kd_P_n (kd_P_set (kd_P_set h (by omega) ?_) (by omega) ?_))))⟩⟩) (fun z => absurd z (by omega))
    · exact congrArg (fun t => vp_updL s t 1) (pk_cl (b * 6 + 4) (kd_ix6 b 4))
    · exact congrArg (fun t => vp_updL (vp_updL s (b * 6 + 4) 1) t 0) (pk_cl (b * 6 + 5) (kd_ix6 b 5))
    · rw [h4]
      rfl
    · rw [h5]
      rfl
  · intro n i s hi h hw
    obtain ⟨g1, g2⟩ := hM i hi
    refine pk_le 4 i (fun z => absurd z (by omega)) (fun _ => ⟨pk_in (b * 4 + i) 16 (by omega) (kd_ix4 b i), pk_in (b * 6 + i) 24 (by omega) (kd_ix6 b i), nm_r (e' := vp_updL s (b * 6 + i) (lN (M b i))) ?_ (nm_r (nI_1 i) (hw _ (kd_P_set h (by omega) rfl)))⟩)
    rw [kd_ix6, kd_ix4, nI_clamp (by omega), nI_clamp (by omega), g2, nI_l (by omega)]
theorem kd_price91 {post : Int32 → St2 → Prop} {p : Nat → Nat} (hs : ∀ j, j < 4 → a5 (j * 6 + 4) = lN (p j))
    (H : ∀ t, (∀ j, j < 4 → t j = lN (p j)) → post 1 (fR, fM, fD, fP, fB, a1, a2, a3, a4, a5, t, a7, a8, a9, a10, a11, a12, a13, a14)) : ∃ n, wX_priceBasis_91 post fR fM fD fP fB n 0 a1 a2 a3 a4 a5 a6 a7 a8 a9 a10 a11 a12 a13 a14 := by
  refine pk_loop (fun n i t => wX_priceBasis_91 post fR fM fD fP fB n (nI i) a1 a2 a3 a4 a5 t a7 a8 a9 a10 a11 a12 a13 a14) (fun i t => ∀ j, j < i → t j = lN (p j)) 4 0 a6 (by omega) (fun j hj => absurd hj (by omega)) ?_ ?_
  · intro n t h
    exact pk_le 4 4 (fun _ => H t h) (fun z => absurd z (by omega))
  · intro n i t hi h hw
    refine pk_le 4 i (fun z => absurd z (by omega)) (fun _ => ⟨pk_in (i * 6 + 4) 24 (by omega) (kd_ix6 i 4), pk_in i 4 (by omega), nm_r (e' := vp_updL t i (lN (p i))) ?_ (nm_r (nI_1 i) (hw _ ?_))⟩)
    · have e : (nI i * 6 + 4).toNatClampNeg = i * 6 + 4 := pk_cl (i * 6 + 4) (kd_ix6 i 4)
      rw [e, nI_clamp (by omega), hs i hi]
    · intro j hj
      by_cases e : j = i
      · rw [e, pk_uLs]
      · rw [pk_uLn e]
        exact h j (by omega)
theorem kd_price {post : Int32 → St2 → Prop} {d : Nat → Nat} {B : Nat → Nat → Nat → Nat} (hR : kd_R d B) (hb : ∀ b, b < 4 → ∀ i, i < 4 → a4 (b * 4 + i) = nI (B 0 b i))
    (h4 : ∀ b, b < 4 → B 0 b 4 = 1) (h5 : ∀ b, b < 4 → B 0 b 5 = 0)
    (H : ∀ s t, (∀ j, j < 4 → t j = lN (kd_pr d j 4 * B 4 j 4)) → post 1 (fR, fM, lN (kd_pr d 4 4), lN (kd_pr d 4 4), fB, a1, a2, a3, a4, s, t, a7, a8, a9, a10, a11, a12, a13, a14)) : wpX_priceBasis post (fR, fM, fD, fP, fB, a1, a2, a3, a4, a5, a6, a7, a8, a9, a10, a11, a12, a13, a14) := by
  unfold wpX_priceBasis
  refine pk_loop (fun n b s => wX_priceBasis_2 post fR fM fD fP fB n (nI b) a1 a2 a3 a4 s a6 a7 a8 a9 a10 a11 a12 a13 a14) (fun b s => kd_P s (B 0) b 0) 4 0 a5 (by omega) kd_P_0 ?_ ?_
  · intro n s h
    refine pk_le 4 4 (fun _ => kd_reduce hR (kd_P_C h) (fun s' h' => ?_)) (fun z => absurd z (by omega))
    exact br_f (by decide) (kd_price91 (p := fun j => kd_pr d j 4 * B 4 j 4) (fun j hj => h' j hj 4 (by omega)) (fun t ht => H s' t ht))
  · intro n b s hb' h hw
    exact pk_le 4 b (fun z => absurd z (by omega)) (fun _ => kd_price9 hb' (fun i hi => ⟨hR.2.1 0 b i hb' (by omega), hb b hb' i hi⟩) (h4 b hb') (h5 b hb') h (fun s' h' => hw s' h'))
theorem kd_sound {post : Int32 → Prop} {p : Nat → Nat} {D : Nat} (hp : ∀ j, j < 4 → p j < 2 ^ 63 ∧ a6 j = lN (p j)) (hD : 0 < D) (hD' : D < 2 ^ 63) (H : post 1) : wpX_sound post (fR, fM, fD, lN D, fB, a1, a2, a3, a4, a5, a6, a7, a8, a9, a10, a11, a12, a13, a14) := by
  unfold wpX_sound
  refine pk_loop (σ := Unit) (fun n i _ => wX_sound_2 post fR fM fD (lN D) fB a1 a2 a3 a4 a5 a6 a7 a8 a9 a10 a11 a12 a13 a14 n (nI i)) (fun _ _ => True) 4 0 () (by omega) trivial ?_ ?_
  · intro n _ _
    exact pk_le 4 4 (fun _ => br_f (kd_lgt hD hD') H) (fun z => absurd z (by omega))
  · intro n i _ hi _ hw
    obtain ⟨g1, g2⟩ := hp i hi
    refine pk_le 4 i (fun z => absurd z (by omega)) (fun _ => ⟨pk_in i 4 hi, br_t ?_ (nm_r (nI_1 i) (hw () trivial))⟩)
    rw [nI_clamp (by omega), g2]
    exact kd_lge _ g1
end
end
section
/-! the most valuable pattern, in plain numbers: one kind of width s and worth p, the others of width 1 and worth q at most -/
def kd_wd (k s j : Nat) : Nat := if j = k then s else 1
def kd_V (s p q w : Nat) : Nat := w / s * p + w % s * q
theorem kd_V_ab {s a b p q : Nat} (hb : b < s) : kd_V s p q (s * a + b) = a * p + b * q := by
  unfold kd_V
  rw [Nat.mul_add_div (by omega), Nat.div_eq_of_lt hb, Nat.add_zero, Nat.mul_add_mod, Nat.mod_eq_of_lt hb]
theorem kd_V_0 {s p q : Nat} : kd_V s p q 0 = 0 := by
  unfold kd_V
  rw [Nat.zero_div, Nat.zero_mod, Nat.zero_mul, Nat.zero_mul]
theorem kd_V_s {s p q w : Nat} (hs : 0 < s) (h : s ≤ w) : kd_V s p q w = kd_V s p q (w - s) + p := by
  have e : w = (w - s) + s := by omega
  unfold kd_V
  rw [e, Nat.add_div_right _ hs, Nat.add_mod_right, Nat.add_sub_cancel, Nat.succ_mul]
  omega
theorem kd_V_1 {s p q w : Nat} (hs : 0 < s) (hq : s * q ≤ p) (h : 0 < w) : kd_V s p q (w - 1) + q ≤ kd_V s p q w := by
  have hw := Nat.div_add_mod w s
  have hb := Nat.mod_lt w hs
  generalize w / s = a at hw
  generalize w % s = b at hw hb
  subst hw
  rw [kd_V_ab hb]
  by_cases e : b = 0
  · subst e
    cases a with
    | zero => rw [Nat.mul_zero] at h; omega
    | succ a =>
      have e2 : s * (a + 1) + 0 - 1 = s * a + (s - 1) := by
        rw [Nat.mul_succ]; omega
      rw [e2, kd_V_ab (by omega), Nat.succ_mul, Nat.zero_mul]
      have e3 : (s - 1) * q + q = s * q := by
        rw [← Nat.succ_mul]
        congr 1
        omega
      omega
  · have e2 : s * a + b - 1 = s * a + (b - 1) := by omega
    rw [e2, kd_V_ab (by omega)]
    have e3 : (b - 1) * q + q = b * q := by
      rw [← Nat.succ_mul]
      congr 1
      omega
    omega
theorem kd_V_lt {s p q w : Nat} (h : 0 < w) (hs : w < s) : kd_V s p q w = kd_V s p q (w - 1) + q := by
  unfold kd_V
  rw [Nat.div_eq_of_lt hs, Nat.div_eq_of_lt (show w - 1 < s by omega), Nat.mod_eq_of_lt hs, Nat.mod_eq_of_lt (show w - 1 < s by omega)]
  have e3 : (w - 1) * q + q = w * q := by
    rw [← Nat.succ_mul]
    congr 1
    omega
  omega
theorem kd_V_le {s p q w : Nat} (hp : p ≤ 160000) (hq : q ≤ 160000) (hw : w ≤ 20) : kd_V s p q w ≤ 6400000 := by
  unfold kd_V
  have h1 : w / s * p ≤ 20 * 160000 := Nat.mul_le_mul (Nat.le_trans (Nat.div_le_self w s) hw) hp
  have h2 : w % s * q ≤ 20 * 160000 := Nat.mul_le_mul (Nat.le_trans (Nat.mod_le w s) hw) hq
  omega
/-- prices as the pivoting makes them -/
def kd_H (R s k j0 p q : Nat) (pr : Nat → Nat) : Prop :=
  (0 < s ∧ s ≤ R ∧ R ≤ 20) ∧ (k < 4 ∧ j0 < 4 ∧ j0 ≠ k) ∧ s * q ≤ p ∧ (p ≤ 160000 ∧ q ≤ 160000) ∧ (pr k = p ∧ pr j0 = q) ∧ (∀ j, j < 4 → j ≠ k → pr j ≤ q) ∧ (∀ j, j < j0 → j ≠ k → pr j = 0)
/-- the last piece at width w, while its worth stands at x -/
def kd_L (s k j0 p q w x : Nat) (l : Int32) : Prop := (l = -1 ∧ x = kd_V s p q (w - 1)) ∨ (l = nI j0 ∧ x = kd_V s p q (w - 1) + q) ∨ (l = nI k ∧ s ≤ w ∧ x = kd_V s p q w)
/-- the tables below width w -/
def kd_Q (s k j0 p q w : Nat) (t : Nat → Int64) (l : Nat → Int32) : Prop := ∀ v, v < w → t v = lN (kd_V s p q v) ∧ (0 < v → kd_L s k j0 p q v (kd_V s p q v) (l v))
theorem kd_Q_up {s k j0 p q w : Nat} {t : Nat → Int64} {l : Nat → Int32} {x : Int64} {y : Int32} (h : kd_Q s k j0 p q w t l) : kd_Q s k j0 p q w (vp_updL t w x) (upd l w y) := fun v hv => by
  rw [pk_uLn (by omega), pk_un (by omega)]
  exact h v hv
/-- the row at width w, the kinds below i tried -/
def kd_I (s k j0 p q w i : Nat) (t : Nat → Int64) (l : Nat → Int32) : Prop :=
  kd_Q s k j0 p q w t l ∧ ∃ x, t w = lN x ∧ x ≤ kd_V s p q w ∧ kd_V s p q (w - 1) ≤ x ∧ (j0 < i → kd_V s p q (w - 1) + q ≤ x) ∧ (k < i → s ≤ w → kd_V s p q w ≤ x) ∧ kd_L s k j0 p q w x (l w)
section
variable {fR fM : Int32} {fD fP : Int64} {fB : Int32} {a1 a2 a3 a4 : Nat → Int32} {a5 a6 a7 a8 a9 : Nat → Int64} {a10 a11 a12 a13 a14 : Nat → Int32}
theorem kd_most47 {post : Int64 → St2 → Prop} {J : Int32 → (Nat → Int32) → (Nat → Int32) → (Nat → Int32) → (Nat → Int32) → (Nat → Int64) → (Nat → Int64) → (Nat → Int64) → (Nat → Int64) → (Nat → Int64) → (Nat → Int32) → (Nat → Int32) → (Nat → Int32) → (Nat → Int32) → (Nat → Int32) → Prop}
    {R s k j0 p q w : Nat} {pr : Nat → Nat} (hH : kd_H R s k j0 p q pr) (h1 : ∀ j, j < 4 → a1 j = nI (kd_wd k s j)) (h6 : ∀ j, j < 4 → a6 j = lN (pr j)) (hw0 : 0 < w) (hwR : w ≤ R)
    (hs : kd_I s k j0 p q w 0 a9 a10) (H : ∀ t l, kd_Q s k j0 p q (w + 1) t l → J (nI (w + 1)) a1 a2 a3 a4 a5 a6 a7 a8 t l a11 a12 a13 a14) : ∃ n, wX_mostValuable_47 post J (nI w) fR fM fD fP fB n 0 a1 a2 a3 a4 a5 a6 a7 a8 a9 a10 a11 a12 a13 a14 := by
  obtain ⟨⟨s0, sR, R20⟩, ⟨k4, j4, jk⟩, sq, ⟨p1, q1⟩, ⟨ek, ej⟩, hle, hz⟩ := hH
  refine pk_loop (σ := (Nat → Int64) × (Nat → Int32)) (fun n i s => wX_mostValuable_47 post J (nI w) fR fM fD fP fB n (nI i) a1 a2 a3 a4 a5 a6 a7 a8 s.1 s.2 a11 a12 a13 a14) (fun i z => kd_I s k j0 p q w i z.1 z.2) 4 0 (a9, a10) (by omega) hs ?_ ?_
  · rintro n ⟨t, l⟩ ⟨hQ, x, e1, e2, e3, e4, e5, e6⟩
    refine pk_le 4 4 (fun _ => nm_r (nI_1 w) (H t l ?_)) (fun z => absurd z (by omega))
    have ex : x = kd_V s p q w := by
      by_cases g : s ≤ w
      · have := e5 k4 g
        omega
      · have := e4 j4
        have := kd_V_lt (p := p) (q := q) hw0 (show w < s by omega)
        omega
    intro v hv
    by_cases g : v = w
    · subst g
      rw [← ex]
      exact ⟨e1, fun _ => e6⟩
    · exact hQ v (by omega)
  · rintro n i ⟨t, l⟩ hi ⟨hQ, x, e1, e2, e3, e4, e5, e6⟩ hw
    dsimp only at e1 e6 hQ
    have hVw := kd_V_le (s := s) p1 q1 (show w ≤ 20 by omega)
    have b8 : (nI i).toInt8.toInt32 = nI i := kd_b8 i (by omega)
    have c1 : (nI i).toNatClampNeg = i := nI_clamp (by omega)
    have c2 : (nI w).toNatClampNeg = w := nI_clamp (by omega)
    by_cases ei : i = k
    · have g1 : a1 i = nI s := by
        rw [h1 i hi]
        exact congrArg nI (if_pos ei)
      have hwk : ∀ t' l', kd_Q s k j0 p q w t' l' → (∃ x', t' w = lN x' ∧ x' ≤ kd_V s p q w ∧ kd_V s p q (w - 1) ≤ x' ∧ x ≤ x' ∧ (s ≤ w → kd_V s p q w ≤ x') ∧ kd_L s k j0 p q w x' (l' w)) → wX_mostValuable_47 post J (nI w) fR fM fD fP fB n (nI (i + 1)) a1 a2 a3 a4 a5 a6 a7 a8 t' l' a11 a12 a13 a14 := by
        rintro t' l' hQ' ⟨x', y1, y2, y3, y4, y5, y6⟩
        exact hw (t', l') ⟨hQ', x', y1, y2, y3, fun z => by have := e4 (by omega); omega, fun _ => y5, y6⟩
      refine pk_le 4 i (fun z => absurd z (by omega)) (fun _ => ⟨pk_in i 4 hi, pk_lt w s (fun z => ?_) (fun z => ?_) rfl (by rw [c1]; exact g1)⟩)
      · exact nm_r (nI_1 i) (hwk t l hQ ⟨x, e1, e2, e3, Nat.le_refl x, fun g => absurd g (by omega), e6⟩)
      · have v1 := kd_V_s (p := p) (q := q) s0 z
        have i1 : nI w - a1 (nI i).toNatClampNeg = nI (w - s) := by
          rw [c1, g1, pk_sub z]
        have i2 : (nI w - a1 (nI i).toNatClampNeg).toNatClampNeg = w - s := by
          rw [i1, nI_clamp (by omega)]
        have cd : t (nI w - a1 (nI i).toNatClampNeg).toNatClampNeg + a6 (nI i).toNatClampNeg = lN (kd_V s p q w) := by
          rw [i2, c1, (hQ (w - s) (by omega)).1, h6 i hi, ei, ek, lN_add, v1]
        refine ⟨pk_in i 4 hi, pk_in (w - s) 41 (by omega) i1, pk_in i 4 hi, pk_in w 41 (by omega), ?_⟩
        dsimp only
        rw [cd, c2, e1]
        refine ⟨fun g => nm_r (nI_1 i) (hwk t l hQ ⟨x, e1, e2, e3, Nat.le_refl x, fun _ => (pk_lLE (by omega) (by omega)).mp g, e6⟩), fun g => ⟨pk_in i 4 hi, pk_in (w - s) 41 (by omega) i1, pk_in i 4 hi, pk_in w 41 (by omega), nm_e ⟨pk_in w 41 (by omega), nm_r (e' := upd l w (nI k)) (by rw [b8, ei]) (nm_r (nI_1 i) (hwk _ _ (kd_Q_up hQ) ⟨kd_V s p q w, pk_uLs, Nat.le_refl _, by omega, e2, fun _ => Nat.le_refl _, Or.inr (Or.inr ⟨pk_us, z, rfl⟩)⟩))⟩⟩⟩
    · have g1 : a1 i = nI 1 := by
        rw [h1 i hi]
        exact congrArg nI (if_neg ei)
      have v1 := kd_V_1 (p := p) (q := q) s0 sq hw0
      have hpi := hle i hi ei
      have i1 : nI w - a1 (nI i).toNatClampNeg = nI (w - 1) := by
        rw [c1, g1, pk_sub (by omega)]
      have i2 : (nI w - a1 (nI i).toNatClampNeg).toNatClampNeg = w - 1 := by
        rw [i1, nI_clamp (by omega)]
      have cd : t (nI w - a1 (nI i).toNatClampNeg).toNatClampNeg + a6 (nI i).toNatClampNeg = lN (kd_V s p q (w - 1) + pr i) := by
        rw [i2, c1, (hQ (w - 1) (by omega)).1, h6 i hi, lN_add]
      refine pk_le 4 i (fun z => absurd z (by omega)) (fun _ => ⟨pk_in i 4 hi, pk_lt w 1 (fun z => absurd z (by omega)) (fun _ => ?_) rfl (by rw [c1]; exact g1)⟩)
      refine ⟨pk_in i 4 hi, pk_in (w - 1) 41 (by omega) i1, pk_in i 4 hi, pk_in w 41 (by omega), ?_⟩
      dsimp only
      rw [cd, c2, e1]
      refine ⟨fun g => ?_, fun g => ?_⟩
      · have g' := (pk_lLE (by omega) (by omega)).mp g
        refine nm_r (nI_1 i) (hw (t, l) ⟨hQ, x, e1, e2, e3, fun z => ?_, fun z => e5 (by omega), e6⟩)
        by_cases y : i = j0
        · rw [y, ej] at g'
          exact g'
        · exact e4 (by omega)
      · have g' : ¬ kd_V s p q (w - 1) + pr i ≤ x := fun y => g ((pk_lLE (by omega) (by omega)).mpr y)
        have y : i = j0 := by
          rcases Nat.lt_trichotomy i j0 with y | y | y
          · have := hz i y ei
            omega
          · exact y
          · have := e4 y
            omega
        refine ⟨pk_in i 4 hi, pk_in (w - 1) 41 (by omega) i1, pk_in i 4 hi, pk_in w 41 (by omega), nm_e ⟨pk_in w 41 (by omega), nm_r (e' := upd l w (nI j0)) (by rw [b8, y]) (nm_r (nI_1 i) (hw (_, _) ⟨kd_Q_up hQ, kd_V s p q (w - 1) + q, ?_, v1, by omega, fun _ => Nat.le_refl _, fun z z2 => ?_, Or.inr (Or.inl ⟨pk_us, rfl⟩)⟩))⟩⟩
        · rw [y, ej]
          exact pk_uLs
        · have := e5 (by omega) z2
          rw [y, ej] at g'
          omega
theorem kd_most165 {post : Int64 → St2 → Prop} {R s k j0 p q : Nat} {pr : Nat → Nat} (hH : kd_H R s k j0 p q pr) (h1 : ∀ j, j < 4 → a1 j = nI (kd_wd k s j)) (hQ : kd_Q s k j0 p q (R + 1) a9 a10) (h0 : ∀ j, j < 4 → a11 j = nI 0)
    (H : ∀ e ck c0, e k = nI ck → e j0 = nI c0 → (∀ j, j < 4 → j ≠ k → j ≠ j0 → e j = nI 0) → kd_V s p q R = ck * p + c0 * q → ck * s + c0 ≤ R → post (lN (kd_V s p q R)) (fR, nI R, fD, fP, fB, a1, a2, a3, a4, a5, a6, a7, a8, a9, a10, e, a12, a13, a14)) :
    ∃ n, wX_mostValuable_165 post fR (nI R) fD fP fB n (nI R) 0 a1 a2 a3 a4 a5 a6 a7 a8 a9 a10 a11 a12 a13 a14 := by
  obtain ⟨⟨s0, sR, R20⟩, ⟨k4, j4, jk⟩, sq, ⟨p1, q1⟩, ⟨ek, ej⟩, hle, hz⟩ := hH
  refine loop_m (σ := Nat × Nat × (Nat → Int32)) (fun n z => wX_mostValuable_165 post fR (nI R) fD fP fB n (nI z.1) (nI z.2.1) a1 a2 a3 a4 a5 a6 a7 a8 a9 a10 z.2.2 a12 a13 a14) (fun z => z.1 + z.2.1 ≤ R ∧ ∃ ck c0, z.2.2 k = nI ck ∧ z.2.2 j0 = nI c0 ∧ (∀ j, j < 4 → j ≠ k → j ≠ j0 → z.2.2 j = nI 0) ∧ kd_V s p q R = kd_V s p q z.1 + (ck * p + c0 * q) ∧ z.1 + (ck * s + c0) ≤ R) (fun z => z.1) ?_ (R, 0, a11) ⟨by dsimp only; omega, 0, 0, h0 k k4, h0 j0 j4, fun j hj _ _ => h0 j hj, by dsimp only; omega, by dsimp only; omega⟩
  rintro n ⟨w, st, e⟩ ⟨hst, ck, c0, y1, y2, y3, y4, y5⟩ hw
  dsimp only at hst y1 y2 y3 y4 y5
  refine pk_le 40 st (fun z => absurd z (by omega)) (fun _ => pk_le w 0 (fun z => ⟨pk_in R 41 (by omega), ?_⟩) (fun z => ⟨pk_in w 41 (by omega), ?_⟩))
  · have w0 : w = 0 := by omega
    subst w0
    rw [nI_clamp (by omega), (hQ R (by omega)).1]
    rw [kd_V_0] at y4
    exact H e ck c0 y1 y2 y3 (by omega) (by omega)
  · have c2 : (nI w).toNatClampNeg = w := nI_clamp (by omega)
    have cs : ck ≤ ck * s := Nat.le_mul_of_pos_right ck s0
    rcases (hQ w (by omega)).2 z with ⟨l1, l2⟩ | ⟨l1, l2⟩ | ⟨l1, l2, l3⟩
    · refine nm_r (e' := -1) (by rw [c2]; exact l1) (br_t kd_m1 (nm_r (sb_m1 z) (nm_r (nI_1 st) (hw (w - 1, st + 1, e) ⟨by dsimp only; omega, ck, c0, y1, y2, y3, by dsimp only; omega, by dsimp only; omega⟩ (by dsimp only; omega)))))
    · have c3 : (nI j0).toNatClampNeg = j0 := nI_clamp (by omega)
      have g1 : a1 j0 = nI 1 := by
        rw [h1 j0 j4]
        exact congrArg nI (if_neg jk)
      refine nm_r (e' := nI j0) (by rw [c2]; exact l1) (br_f (nI_pos (by omega)) ⟨pk_in j0 4 j4, pk_in j0 4 j4, nm_r (e' := upd e j0 (nI (c0 + 1))) ?_ ⟨pk_in j0 4 j4, nm_r (e' := nI (w - 1)) ?_ (nm_r (nI_1 st) (hw (w - 1, st + 1, upd e j0 (nI (c0 + 1))) ⟨by dsimp only; omega, ck, c0 + 1, ?_, pk_us, fun j hj n1 n2 => ?_, ?_, ?_⟩ (by dsimp only; omega)))⟩⟩)
      · dsimp only
        rw [c3, y2, kd_b8s (by omega)]
      · rw [c3, g1, pk_sub (by omega)]
      · dsimp only
        rw [pk_un (fun t => jk t.symm)]
        exact y1
      · dsimp only
        rw [pk_un n2]
        exact y3 j hj n1 n2
      · dsimp only
        rw [Nat.succ_mul]
        omega
      · dsimp only
        omega
    · have c3 : (nI k).toNatClampNeg = k := nI_clamp (by omega)
      have g1 : a1 k = nI s := by
        rw [h1 k k4]
        exact congrArg nI (if_pos rfl)
      have v1 := kd_V_s (p := p) (q := q) s0 l2
      refine nm_r (e' := nI k) (by rw [c2]; exact l1) (br_f (nI_pos (by omega)) ⟨pk_in k 4 k4, pk_in k 4 k4, nm_r (e' := upd e k (nI (ck + 1))) ?_ ⟨pk_in k 4 k4, nm_r (e' := nI (w - s)) ?_ (nm_r (nI_1 st) (hw (w - s, st + 1, upd e k (nI (ck + 1))) ⟨by dsimp only; omega, ck + 1, c0, pk_us, ?_, fun j hj n1 n2 => ?_, ?_, ?_⟩ (by dsimp only; omega)))⟩⟩)
      · dsimp only
        rw [c3, y1, kd_b8s (by omega)]
      · rw [c3, g1, pk_sub l2]
      · dsimp only
        rw [pk_un jk]
        exact y2
      · dsimp only
        rw [pk_un n1]
        exact y3 j hj n1 n2
      · dsimp only
        rw [Nat.succ_mul]
        omega
      · dsimp only
        rw [Nat.succ_mul]
        omega
theorem kd_most140 {post : Int64 → St2 → Prop} {R s k j0 p q : Nat} {pr : Nat → Nat} (hH : kd_H R s k j0 p q pr) (h1 : ∀ j, j < 4 → a1 j = nI (kd_wd k s j)) (hQ : kd_Q s k j0 p q (R + 1) a9 a10)
    (H : ∀ e ck c0, e k = nI ck → e j0 = nI c0 → (∀ j, j < 4 → j ≠ k → j ≠ j0 → e j = nI 0) → kd_V s p q R = ck * p + c0 * q → ck * s + c0 ≤ R → post (lN (kd_V s p q R)) (fR, nI R, fD, fP, fB, a1, a2, a3, a4, a5, a6, a7, a8, a9, a10, e, a12, a13, a14)) :
    ∃ n, wX_mostValuable_140 post fR (nI R) fD fP fB n 0 a1 a2 a3 a4 a5 a6 a7 a8 a9 a10 a11 a12 a13 a14 := by
  refine pk_loop (fun n i e => wX_mostValuable_140 post fR (nI R) fD fP fB n (nI i) a1 a2 a3 a4 a5 a6 a7 a8 a9 a10 e a12 a13 a14) (fun i e => ∀ j, j < i → e j = nI 0) 4 0 a11 (by omega) (fun j hj => absurd hj (by omega)) ?_ ?_
  · intro n e h
    exact pk_le 4 4 (fun _ => kd_most165 hH h1 hQ h H) (fun z => absurd z (by omega))
  · intro n i e hi h hw
    refine pk_le 4 i (fun z => absurd z (by omega)) (fun _ => ⟨pk_in i 4 hi, nm_r (e' := upd e i (nI 0)) (by rw [nI_clamp (by omega)]; rfl) (nm_r (nI_1 i) (hw _ ?_))⟩)
    intro j hj
    by_cases g : j = i
    · rw [g, pk_us]
    · rw [pk_un g]
      exact h j (by omega)
theorem kd_most {post : Int64 → St2 → Prop} {R s k j0 p q : Nat} {pr : Nat → Nat} (hH : kd_H R s k j0 p q pr) (h1 : ∀ j, j < 4 → a1 j = nI (kd_wd k s j)) (h6 : ∀ j, j < 4 → a6 j = lN (pr j))
    (H : ∀ t l e ck c0, e k = nI ck → e j0 = nI c0 → (∀ j, j < 4 → j ≠ k → j ≠ j0 → e j = nI 0) → kd_V s p q R = ck * p + c0 * q → ck * s + c0 ≤ R → post (lN (kd_V s p q R)) (fR, nI R, fD, fP, fB, a1, a2, a3, a4, a5, a6, a7, a8, t, l, e, a12, a13, a14)) :
    wpX_mostValuable post (fR, nI R, fD, fP, fB, a1, a2, a3, a4, a5, a6, a7, a8, a9, a10, a11, a12, a13, a14) := by
  have R20 : R ≤ 20 := hH.1.2.2
  have R1 : 1 ≤ R := Nat.le_trans hH.1.1 hH.1.2.1
  unfold wpX_mostValuable
  refine nm_e (nm_e ?_)
  refine pk_loop (σ := (Nat → Int64) × (Nat → Int32)) (fun n w z => wX_mostValuable_16 post fR (nI R) fD fP fB n (nI w) a1 a2 a3 a4 a5 a6 a7 a8 z.1 z.2 a11 a12 a13 a14) (fun w z => 0 < w ∧ kd_Q s k j0 p q w z.1 z.2) (R + 1) 1 (vp_updL a9 0 0, upd a10 0 (-1)) (by omega) ⟨by omega, fun v hv => ?_⟩ ?_ ?_
  · have v0 : v = 0 := by omega
    subst v0
    rw [kd_V_0]
    exact ⟨pk_uLs (f := a9) (k := 0) (x := 0), fun z => absurd z (by omega)⟩
  · rintro n ⟨t, l⟩ ⟨_, h⟩
    exact pk_lt R (R + 1) (fun _ => kd_most140 hH h1 h (H t l)) (fun z => absurd z (by omega))
  · rintro n w ⟨t, l⟩ hw' ⟨w0, h⟩ hw
    dsimp only at h
    have i1 : nI w - 1 = nI (w - 1) := pk_sub (b := 1) w0
    refine pk_lt R w (fun z => absurd z (by omega)) (fun _ => ⟨pk_in (w - 1) 41 (by omega) i1, pk_in w 41 (by omega), nm_r (e' := vp_updL t w (lN (kd_V s p q (w - 1)))) ?_ ⟨pk_in w 41 (by omega), nm_r (e' := upd l w (-1)) ?_ (kd_most47 hH h1 h6 w0 (by omega) ⟨kd_Q_up h, kd_V s p q (w - 1), pk_uLs, ?_, Nat.le_refl _, fun z => absurd z (by omega), fun z => absurd z (by omega), Or.inl ⟨pk_us, rfl⟩⟩ (fun t' l' h' => hw (t', l') ⟨by omega, h'⟩))⟩⟩)
    · dsimp only
      rw [i1, nI_clamp (by omega), nI_clamp (by omega), (h (w - 1) (by omega)).1]
    · dsimp only
      rw [nI_clamp (by omega)]
    · have := kd_V_1 (p := p) (q := q) hH.1.1 hH.2.2.1 w0
      omega
end
end
section
section
variable {fR fM : Int32} {fD fP : Int64} {fB : Int32} {a1 a2 a3 a4 : Nat → Int32} {a5 a6 a7 a8 a9 : Nat → Int64} {a10 a11 a12 a13 a14 : Nat → Int32}
theorem kd_piv9 {post : Int32 → St2 → Prop} {J : Int32 → (Nat → Int32) → (Nat → Int32) → (Nat → Int32) → (Nat → Int32) → (Nat → Int64) → (Nat → Int64) → (Nat → Int64) → (Nat → Int64) → (Nat → Int64) → (Nat → Int32) → (Nat → Int32) → (Nat → Int32) → (Nat → Int32) → (Nat → Int32) → Prop}
    {M : Nat → Nat → Nat} {b : Nat} (hb : b < 4) (hM : ∀ i, i < 6 → M b i ≤ 20) (h4 : ∀ i, i < 4 → a4 (i * 4 + b) = nI (M b i)) (h3 : a3 b = nI (M b 4)) (h11 : a11 b = nI (M b 5)) (hs : kd_P a5 M b 0)
    (H : ∀ s, kd_P s M (b + 1) 0 → J (nI (b + 1)) a1 a2 a3 a4 s a6 a7 a8 a9 a10 a11 a12 a13 a14) : ∃ n, wX_pivot_9 post J (nI b) fR fM fD fP fB n 0 a1 a2 a3 a4 a5 a6 a7 a8 a9 a10 a11 a12 a13 a14 := by
  refine pk_loop (fun n i s => wX_pivot_9 post J (nI b) fR fM fD fP fB n (nI i) a1 a2 a3 a4 s a6 a7 a8 a9 a10 a11 a12 a13 a14) (fun i s => kd_P s M b i) 4 0 a5 (by omega) hs ?_ ?_
  · intro n s h
    have g4 := hM 4 (by omega)
    have g5 := hM 5 (by omega)
    have x4 : (nI b * 6 + 4).toNatClampNeg = b * 6 + 4 := pk_cl (b * 6 + 4) (kd_ix6 b 4)
    have x5 : (nI b * 6 + 5).toNatClampNeg = b * 6 + 5 := pk_cl (b * 6 + 5) (kd_ix6 b 5)
    refine pk_le 4 4 (fun _ => ⟨pk_in b 4 hb, pk_in (b * 6 + 4) 24 (by omega) (kd_ix6 b 4), nm_r (e' := vp_updL s (b * 6 + 4) (lN (M b 4))) ?_ ⟨pk_in b 4 hb, pk_in (b * 6 + 5) 24 (by omega) (kd_ix6 b 5), nm_r (e' := vp_updL (vp_updL s (b * 6 + 4) (lN (M b 4))) (b * 6 + 5) (lN (M b 5))) ?_ (nm_r (nI_1 b) (H _ (kd_P_n (kd_P_set (kd_P_set h (by omega) rfl) (by omega) rfl))))⟩⟩) (fun z => absurd z (by omega))
    · rw [x4, nI_clamp (by omega), h3, nI_l (by omega)]
    · rw [x5, nI_clamp (by omega), h11, nI_l (by omega)]
  · intro n i s hi h hw
    have g1 := hM i (by omega)
    refine pk_le 4 i (fun z => absurd z (by omega)) (fun _ => ⟨pk_in (i * 4 + b) 16 (by omega) (kd_ix4 i b), pk_in (b * 6 + i) 24 (by omega) (kd_ix6 b i), nm_r (e' := vp_updL s (b * 6 + i) (lN (M b i))) ?_ (nm_r (nI_1 i) (hw _ (kd_P_set h (by omega) rfl)))⟩)
    rw [kd_ix6, kd_ix4, nI_clamp (by omega), nI_clamp (by omega), h4 i hi, nI_l (by omega)]
theorem kd_piv197 {post : Int32 → St2 → Prop} {Bm : Nat → Nat → Nat} {E : Nat → Nat} {o : Nat} (ho : o < 4) (hb : ∀ b, b < 4 → ∀ i, i < 4 → a4 (b * 4 + i) = nI (Bm b i)) (hE : ∀ j, j < 4 → E j ≤ 20 ∧ a11 j = nI (E j))
    (H : ∀ s, (∀ b, b < 4 → ∀ i, i < 4 → s (b * 4 + i) = nI (if b = o then E i else Bm b i)) → post 1 (fR, fM, fD, fP, fB, a1, a2, a3, s, a5, a6, a7, a8, a9, a10, a11, a12, a13, a14)) : ∃ n, wX_pivot_197 post (nI o) fR fM fD fP fB n 0 a1 a2 a3 a4 a5 a6 a7 a8 a9 a10 a11 a12 a13 a14 := by
  refine pk_loop (fun n i s => wX_pivot_197 post (nI o) fR fM fD fP fB n (nI i) a1 a2 a3 s a5 a6 a7 a8 a9 a10 a11 a12 a13 a14) (fun i s => ∀ b, b < 4 → ∀ j, j < 4 → s (b * 4 + j) = nI (if b = o ∧ j < i then E j else Bm b j)) 4 0 a4 (by omega) (fun b hb' j hj => (hb b hb' j hj).trans (congrArg nI (if_neg (by omega)).symm)) ?_ ?_
  · intro n s h
    refine pk_le 4 4 (fun _ => H s (fun b hb' j hj => (h b hb' j hj).trans (congrArg nI ?_))) (fun z => absurd z (by omega))
    by_cases e : b = o
    · rw [if_pos ⟨e, hj⟩, if_pos e]
    · rw [if_neg (fun t => e t.1), if_neg e]
  · intro n i s hi h hw
    obtain ⟨g1, g2⟩ := hE i hi
    refine pk_le 4 i (fun z => absurd z (by omega)) (fun _ => ⟨pk_in i 4 hi, pk_in (o * 4 + i) 16 (by omega) (kd_ix4 o i), nm_r (e' := upd s (o * 4 + i) (nI (E i))) ?_ (nm_r (nI_1 i) (hw _ ?_))⟩)
    · rw [kd_ix4, nI_clamp (by omega), nI_clamp (by omega), g2, kd_nb (by omega)]
    · intro b hb' j hj
      by_cases e : b = o ∧ j = i
      · obtain ⟨rfl, rfl⟩ := e
        rw [pk_us, if_pos ⟨rfl, Nat.lt_succ_self j⟩]
      · rw [pk_un (by omega), h b hb' j hj]
        refine congrArg nI ?_
        by_cases g : b = o ∧ j < i
        · rw [if_pos g, if_pos ⟨g.1, by omega⟩]
        · rw [if_neg g, if_neg (by omega)]
theorem kd_piv97 {post : Int32 → St2 → Prop} {Bm : Nat → Nat → Nat} {E Aa Tt : Nat → Nat} {k j0 : Nat} (hk : k < 4) (hj : j0 < 4) (hjk : j0 ≠ k) (hb : ∀ b, b < 4 → ∀ i, i < 4 → a4 (b * 4 + i) = nI (Bm b i)) (hE : ∀ j, j < 4 → E j ≤ 20 ∧ a11 j = nI (E j))
    (hc : ∀ j, j < 4 → a5 (j * 6 + 4) = lN (Aa j) ∧ a5 (j * 6 + 5) = lN (Tt j) ∧ Aa j ≤ 3200000 ∧ Tt j ≤ 3200000)
    (hA : ∀ j, j < 4 → j ≠ k → Aa j = 0) (hAk : 0 < Aa k) (hTk : 0 < Tt k) (hTj : 0 < Tt j0) (hT : ∀ j, j < 4 → j ≠ k → j ≠ j0 → Tt j = 0)
    (H : ∀ s t7 t8, (∀ b, b < 4 → ∀ i, i < 4 → s (b * 4 + i) = nI (if b = j0 then E i else Bm b i)) → post 1 (fR, fM, fD, fP, fB, a1, a2, a3, s, a5, a6, t7, t8, a9, a10, a11, a12, a13, a14)) : ∃ n, wX_pivot_97 post fR fM fD fP fB n (-1) 0 a1 a2 a3 a4 a5 a6 a7 a8 a9 a10 a11 a12 a13 a14 := by
  refine pk_loop (σ := Int32 × (Nat → Int64) × (Nat → Int64)) (fun n i z => wX_pivot_97 post fR fM fD fP fB n z.1 (nI i) a1 a2 a3 a4 a5 a6 z.2.1 z.2.2 a9 a10 a11 a12 a13 a14) (fun i z => z.1 = (if j0 < i then nI j0 else if k < i then nI k else -1) ∧ ∀ b, b < i → z.2.1 b = lN (Aa b) ∧ z.2.2 b = lN (Tt b)) 4 0 (-1, a7, a8) (by omega) ⟨by rw [if_neg (by omega), if_neg (by omega)], fun b h => absurd h (by omega)⟩ ?_ ?_
  · rintro n ⟨o, t7, t8⟩ ⟨h1, _⟩
    dsimp only at h1
    rw [if_pos hj] at h1
    subst h1
    exact pk_le 4 4 (fun _ => br_t (nI_pos' (by omega)) (kd_piv197 hj hb hE (fun s hs => H s t7 t8 hs))) (fun z => absurd z (by omega))
  · rintro n i ⟨o, t7, t8⟩ hi ⟨h1, h2⟩ hw
    dsimp only at h1 h2
    obtain ⟨c4, c5, b4, b5⟩ := hc i hi
    have x4 : (nI i * 6 + 4).toNatClampNeg = i * 6 + 4 := pk_cl (i * 6 + 4) (kd_ix6 i 4)
    have x5 : (nI i * 6 + 5).toNatClampNeg = i * 6 + 5 := pk_cl (i * 6 + 5) (kd_ix6 i 5)
    have ci : (nI i).toNatClampNeg = i := nI_clamp (by omega)
    have h2' : ∀ b, b < i + 1 → vp_updL t7 i (lN (Aa i)) b = lN (Aa b) ∧ vp_updL t8 i (lN (Tt i)) b = lN (Tt b) := by
      intro b hb'
      by_cases e : b = i
      · subst e
        exact ⟨pk_uLs, pk_uLs⟩
      · rw [pk_uLn e, pk_uLn e]
        exact h2 b (by omega)
    refine pk_le 4 i (fun z => absurd z (by omega)) (fun _ => ⟨pk_in (i * 6 + 4) 24 (by omega) (kd_ix6 i 4), pk_in i 4 hi, nm_r (e' := vp_updL t7 i (lN (Aa i))) (by dsimp only; rw [x4, ci, c4]) ⟨pk_in (i * 6 + 5) 24 (by omega) (kd_ix6 i 5), pk_in i 4 hi, nm_r (e' := vp_updL t8 i (lN (Tt i))) (by dsimp only; rw [x5, ci, c5]) ⟨pk_in i 4 hi, ?_⟩⟩⟩)
    dsimp only
    rw [ci, (h2' i (Nat.lt_succ_self i)).1, (h2' i (Nat.lt_succ_self i)).2]
    by_cases e1 : i = j0
    · have t0 : 0 < Tt i := by rw [e1]; exact hTj
      have a0 : Aa i = 0 := hA i hi (by omega)
      have hn : j0 < i + 1 := by omega
      have W := hw (nI i, vp_updL t7 i (lN (Aa i)), vp_updL t8 i (lN (Tt i))) ⟨by dsimp only; rw [if_pos hn, e1], h2'⟩
      refine br_f (kd_lgt t0 (by omega)) ?_
      rw [if_neg (by omega)] at h1
      by_cases e2 : k < i
      · rw [if_pos e2] at h1
        subst h1
        have ck : (nI k).toNatClampNeg = k := nI_clamp (by omega)
        refine br_f (nI_pos (by omega)) ⟨pk_in i 4 hi, pk_in k 4 hk, pk_in k 4 hk, pk_in i 4 hi, br_f ?_ (nm_r (nI_1 i) W)⟩
        obtain ⟨_, _, b4', b5'⟩ := hc k hk
        rw [ck, (h2' k (by omega)).1, (h2' k (by omega)).2, lN_mul, lN_mul, a0, Nat.zero_mul]
        refine kd_lgt (Nat.mul_pos hAk t0) (Nat.lt_of_le_of_lt (Nat.mul_le_mul b4' b5) (by decide))
      · rw [if_neg e2] at h1
        subst h1
        exact br_t kd_m1 (nm_r (nI_1 i) W)
    · by_cases e3 : i = k
      · have t0 : 0 < Tt i := by rw [e3]; exact hTk
        refine br_f (kd_lgt t0 (by omega)) ?_
        by_cases e2 : j0 < i
        · rw [if_pos e2] at h1
          have W := hw (o, vp_updL t7 i (lN (Aa i)), vp_updL t8 i (lN (Tt i))) ⟨by dsimp only; rw [if_pos (by omega), h1], h2'⟩
          subst h1
          have ck : (nI j0).toNatClampNeg = j0 := nI_clamp (by omega)
          refine br_f (nI_pos (by omega)) ⟨pk_in i 4 hi, pk_in j0 4 hj, pk_in j0 4 hj, pk_in i 4 hi, br_t ?_ (nm_r (nI_1 i) W)⟩
          obtain ⟨_, _, b4', b5'⟩ := hc j0 hj
          rw [ck, (h2' j0 (by omega)).1, (h2' j0 (by omega)).2, lN_mul, lN_mul, hA j0 hj hjk, Nat.zero_mul]
          exact kd_lge _ (Nat.lt_of_le_of_lt (Nat.mul_le_mul b4 b5') (by decide))
        · rw [if_neg e2, if_neg (by omega)] at h1
          have W := hw (nI i, vp_updL t7 i (lN (Aa i)), vp_updL t8 i (lN (Tt i))) ⟨by dsimp only; rw [if_neg (by omega), if_pos (by omega), e3], h2'⟩
          subst h1
          exact br_t kd_m1 (nm_r (nI_1 i) W)
      · have t0 : Tt i = 0 := hT i hi e3 e1
        have W := hw (o, vp_updL t7 i (lN (Aa i)), vp_updL t8 i (lN (Tt i))) ⟨?_, h2'⟩
        · refine br_t ?_ (nm_r (nI_1 i) W)
          rw [t0]
          exact (pk_lLE (a := 0) (b := 0) (by decide) (by decide)).mpr (Nat.le_refl 0)
        · dsimp only
          rw [h1]
          by_cases e2 : j0 < i
          · rw [if_pos e2, if_pos (by omega)]
          · rw [if_neg e2, if_neg (show ¬ j0 < i + 1 by omega)]
            by_cases e4 : k < i
            · rw [if_pos e4, if_pos (by omega)]
            · rw [if_neg e4, if_neg (by omega)]
theorem kd_pivot {post : Int32 → St2 → Prop} {d : Nat → Nat} {B : Nat → Nat → Nat → Nat} {Bm : Nat → Nat → Nat} {E : Nat → Nat} {k j0 : Nat} (hR : kd_R d B) (hk : k < 4) (hj : j0 < 4) (hjk : j0 ≠ k)
    (hb : ∀ b, b < 4 → ∀ i, i < 4 → a4 (b * 4 + i) = nI (Bm b i)) (hE : ∀ j, j < 4 → E j ≤ 20 ∧ a11 j = nI (E j)) (hB : ∀ r, r < 4 → ∀ i, i < 4 → B 0 r i = Bm i r) (hB4 : ∀ r, r < 4 → a3 r = nI (B 0 r 4)) (hB5 : ∀ r, r < 4 → B 0 r 5 = E r)
    (hA : ∀ j, j < 4 → j ≠ k → B 4 j 4 = 0) (hAk : 0 < B 4 k 4) (hTk : 0 < B 4 k 5) (hTj : 0 < B 4 j0 5) (hT : ∀ j, j < 4 → j ≠ k → j ≠ j0 → B 4 j 5 = 0)
    (H : ∀ s5 s t7 t8, (∀ b, b < 4 → ∀ i, i < 4 → s (b * 4 + i) = nI (if b = j0 then E i else Bm b i)) → post 1 (fR, fM, lN (kd_pr d 4 4), fP, fB, a1, a2, a3, s, s5, a6, t7, t8, a9, a10, a11, a12, a13, a14)) : wpX_pivot post (fR, fM, fD, fP, fB, a1, a2, a3, a4, a5, a6, a7, a8, a9, a10, a11, a12, a13, a14) := by
  unfold wpX_pivot
  refine pk_loop (fun n b s => wX_pivot_2 post fR fM fD fP fB n (nI b) a1 a2 a3 a4 s a6 a7 a8 a9 a10 a11 a12 a13 a14) (fun b s => kd_P s (B 0) b 0) 4 0 a5 (by omega) kd_P_0 ?_ ?_
  · intro n s h
    refine pk_le 4 4 (fun _ => kd_reduce hR (kd_P_C h) (fun s' h' => ?_)) (fun z => absurd z (by omega))
    have pp : ∀ j, 0 < kd_pr d j 4 := fun j => kd_pr_pos (fun j hj => (hR.1 j hj).1) 4 (by omega)
    have pl : ∀ j, kd_pr d j 4 ≤ 160000 := fun j => kd_pr_le (fun j hj => (hR.1 j hj).2) (by omega)
    refine br_f (by decide) (kd_piv97 (Aa := fun j => kd_pr d j 4 * B 4 j 4) (Tt := fun j => kd_pr d j 4 * B 4 j 5) hk hj hjk hb hE ?_ ?_ ?_ ?_ ?_ ?_ (fun s t7 t8 hs => H s' s t7 t8 hs))
    · intro j hj'
      exact ⟨h' j hj' 4 (by omega), h' j hj' 5 (by omega), Nat.mul_le_mul (pl j) (hR.2.1 4 j 4 hj' (by omega)), Nat.mul_le_mul (pl j) (hR.2.1 4 j 5 hj' (by omega))⟩
    · intro j hj' hne
      show kd_pr d j 4 * B 4 j 4 = 0
      rw [hA j hj' hne, Nat.mul_zero]
    · exact Nat.mul_pos (pp k) hAk
    · exact Nat.mul_pos (pp k) hTk
    · exact Nat.mul_pos (pp j0) hTj
    · intro j hj' n1 n2
      show kd_pr d j 4 * B 4 j 5 = 0
      rw [hT j hj' n1 n2, Nat.mul_zero]
  · intro n b s hb' h hw
    exact pk_le 4 b (fun z => absurd z (by omega)) (fun _ => kd_piv9 hb' (fun i hi => hR.2.1 0 b i hb' hi) (fun i hi => by rw [hb i hi b hb', hB b hb' i hi]) (hB4 b hb') (by rw [hB5 b hb']; exact (hE b hb').2) h (fun s' h' => hw s' h'))
end
end
section
/-! the patterns in use: kind k has pattern (m of k); a kind below c has (m of k, e of its own) by now, another one (R of its own) still -/
def kd_d (k c m R e j : Nat) : Nat := if j = k then m else if j < c then e else R
def kd_Bm (k c m R e b j : Nat) : Nat := if j = b then kd_d k c m R e b else if j = k ∧ b < c then m else 0
def kd_Bp (k c m R e t r i : Nat) : Nat := if i < 4 then (if i = r then kd_d k c m R e r else if i = k ∧ r < c ∧ t ≤ k then m else 0) else if i = 4 then (if r ≠ k ∧ r < c ∧ k < t then 0 else 1) else 0
def kd_Bq (k c m R e j0 n t r i : Nat) : Nat := if i < 4 then (if i = r then kd_d k c m R e r else if r = k ∧ i < c ∧ t ≤ i then m else 0) else if i = 4 then (if r = k then n else 0) else (if r = k then m else if r = j0 then e else 0)
theorem kd_d_in {k c m R e j : Nat} (hm : 0 < m ∧ m ≤ 20) (hR : 0 < R ∧ R ≤ 20) (he : e ≤ 20) (hc : 0 < e ∨ c = 0) : 0 < kd_d k c m R e j ∧ kd_d k c m R e j ≤ 20 := by
  unfold kd_d
  split
  · exact hm
  · split
    · omega
    · exact hR
theorem kd_R_p {k c m R e : Nat} (hm : 0 < m ∧ m ≤ 20) (hR : 0 < R ∧ R ≤ 20) (he : e ≤ 20) (hc : 0 < e ∨ c = 0) : kd_R (kd_d k c m R e) (kd_Bp k c m R e) := by
  refine ⟨fun r _ => kd_d_in hm hR he hc, ?_, ?_, ?_, ?_⟩
  · intro t r i _ _
    have := (kd_d_in (k := k) (j := r) hm hR he hc).2
    unfold kd_Bp
    repeat' split
    all_goals omega
  · intro t ht
    unfold kd_Bp
    rw [if_pos ht, if_pos rfl]
  · intro t r i ht hr hrt hi
    by_cases e1 : t = k
    · unfold kd_Bp kd_d
      grind
    · have b1 : kd_Bp k c m R e t r t = 0 := by
        unfold kd_Bp
        rw [if_pos ht, if_neg (by omega), if_neg (by omega)]
      have b2 : kd_Bp k c m R e (t + 1) r i = kd_Bp k c m R e t r i := by
        unfold kd_Bp
        have w1 : (t + 1 ≤ k) = (t ≤ k) := propext (by omega)
        have w2 : (k < t + 1) = (k < t) := propext (by omega)
        simp only [w1, w2]
      rw [b1, b2, Nat.zero_mul, Nat.add_zero]
  · intro t i ht hi
    by_cases e1 : t = k
    · subst e1
      unfold kd_Bp
      by_cases i4 : i < 4
      · rw [if_pos i4, if_pos i4]
        by_cases g1 : i = t
        · rw [if_pos g1, if_pos g1]
        · rw [if_neg g1, if_neg g1, if_neg (by omega), if_neg (by omega)]
      · rw [if_neg i4, if_neg i4]
        by_cases g1 : i = 4
        · rw [if_pos g1, if_pos g1, if_neg (by omega), if_neg (by omega)]
        · rw [if_neg g1, if_neg g1]
    · unfold kd_Bp
      have w1 : (t + 1 ≤ k) = (t ≤ k) := propext (by omega)
      have w2 : (k < t + 1) = (k < t) := propext (by omega)
      simp only [w1, w2]
theorem kd_R_q {k c m R e j0 n : Nat} (hm : 0 < m ∧ m ≤ 20) (hR : 0 < R ∧ R ≤ 20) (he : e ≤ 20) (hc : 0 < e ∨ c = 0) (hn : n ≤ 20) (hj : c ≤ j0) : kd_R (kd_d k c m R e) (kd_Bq k c m R e j0 n) := by
  refine ⟨fun r _ => kd_d_in hm hR he hc, ?_, ?_, ?_, ?_⟩
  · intro t r i _ _
    have := (kd_d_in (k := k) (j := r) hm hR he hc).2
    unfold kd_Bq
    repeat' split
    all_goals omega
  · intro t ht
    unfold kd_Bq
    rw [if_pos ht, if_pos rfl]
  · intro t r i ht hr hrt hi
    by_cases e1 : r = k ∧ t < c
    · obtain ⟨e1, e2⟩ := e1
      have b1 : kd_Bq k c m R e j0 n t r t = m := by
        unfold kd_Bq
        rw [if_pos ht, if_neg (by omega), if_pos ⟨e1, e2, Nat.le_refl t⟩]
      rw [b1]
      by_cases g : i = t
      · have b2 : kd_Bq k c m R e j0 n (t + 1) r i = 0 := by
          unfold kd_Bq
          rw [if_pos (by omega), if_neg (by omega), if_neg (by omega)]
        have b3 : kd_Bq k c m R e j0 n t t i = kd_d k c m R e t := by
          unfold kd_Bq
          rw [if_pos (by omega), if_pos g]
        rw [b2, b3, g, b1]
        omega
      · have b3 : kd_Bq k c m R e j0 n t t i = 0 := by
          unfold kd_Bq
          by_cases i4 : i < 4
          · rw [if_pos i4, if_neg g, if_neg (by omega)]
          · rw [if_neg i4]
            by_cases g1 : i = 4
            · rw [if_pos g1, if_neg (by omega)]
            · rw [if_neg g1, if_neg (by omega), if_neg (by omega)]
        have b2 : kd_Bq k c m R e j0 n (t + 1) r i = kd_Bq k c m R e j0 n t r i := by
          unfold kd_Bq
          have w1 : (t + 1 ≤ i) = (t ≤ i) := propext (by omega)
          simp only [w1]
        rw [b3, b2, Nat.mul_zero, Nat.add_zero]
    · have b1 : kd_Bq k c m R e j0 n t r t = 0 := by
        unfold kd_Bq
        rw [if_pos ht, if_neg (by omega), if_neg (by omega)]
      have b2 : kd_Bq k c m R e j0 n (t + 1) r i = kd_Bq k c m R e j0 n t r i := by
        unfold kd_Bq
        have w1 : (r = k ∧ i < c ∧ t + 1 ≤ i) = (r = k ∧ i < c ∧ t ≤ i) := propext (by omega)
        simp only [w1]
      rw [b1, b2, Nat.zero_mul, Nat.add_zero]
  · intro t i ht hi
    unfold kd_Bq
    by_cases g : i = t
    · rw [if_pos (by omega), if_pos g, if_pos (by omega), if_pos g]
    · have w1 : (t + 1 ≤ i) = (t ≤ i) := propext (by omega)
      simp only [w1]
theorem kd_Bm_up {k c m R e j0 b i : Nat} (hj : j0 ≠ k) (h : j0 = if c = k then c + 1 else c) : (if b = j0 then (if i = k then m else if i = j0 then e else 0) else kd_Bm k c m R e b i) = kd_Bm k (j0 + 1) m R e b i := by
  unfold kd_Bm kd_d
  grind
/-- the pattern that enters is m of kind k and e of kind j0 -/
theorem kd_uniq {R s m e p q ck c0 : Nat} (hs : 0 < s) (hR : s * m + e = R) (he : e < s) (hpq : p * m = q * R) (hm : 0 < m) (he0 : 0 < e) (hq : 0 < q) (hV : m * p + e * q = ck * p + c0 * q) (hle : ck * s + c0 ≤ R) : ck = m ∧ c0 = e := by
  have h1 : s * q < p := by
    have h2 : s * q * m < p * m := by
      have h3 : 0 < e * q := Nat.mul_pos he0 hq
      have h4 : q * R = s * q * m + e * q := by
        rw [← hR]
        grind
      omega
    exact Nat.lt_of_mul_lt_mul_right h2
  have h5 : ck ≤ m := by
    rcases Nat.lt_or_ge m ck with g | g
    · have h6 : s * (m + 1) ≤ s * ck := Nat.mul_le_mul_left s g
      rw [Nat.mul_succ] at h6
      rw [Nat.mul_comm ck s] at hle
      omega
    · exact g
  have h7 : ck = m := by
    rcases Nat.lt_or_ge ck m with g | g
    · obtain ⟨x, hx⟩ : ∃ x, m = ck + (x + 1) := ⟨m - ck - 1, by omega⟩
      subst hx
      have g1 : (x + 1) * (s * q) < (x + 1) * p := Nat.mul_lt_mul_of_pos_left h1 (by omega)
      have g2 : c0 ≤ (x + 1) * s + e := by
        have : s * (ck + (x + 1)) = ck * s + (x + 1) * s := by grind
        omega
      have g3 : c0 * q ≤ ((x + 1) * s + e) * q := Nat.mul_le_mul_right q g2
      have g4 : ((x + 1) * s + e) * q = (x + 1) * (s * q) + e * q := by grind
      have g5 : (ck + (x + 1)) * p = ck * p + (x + 1) * p := Nat.add_mul _ _ _
      omega
    · omega
  refine ⟨h7, ?_⟩
  rw [h7] at hV
  exact Nat.eq_of_mul_eq_mul_right hq (by omega)
end
section
/-- filled up to row b, place i (rows of 4 bytes) -/
def kd_P4 (a : Nat → Int32) (M : Nat → Nat → Nat) (b i : Nat) : Prop := ∀ r, r < 4 → ∀ j, j < 4 → (r < b ∨ (r = b ∧ j < i)) → a (r * 4 + j) = nI (M r j)
theorem kd_P4_0 {a : Nat → Int32} {M : Nat → Nat → Nat} : kd_P4 a M 0 0 := fun r _ j _ h => absurd h (by omega)
theorem kd_P4_n {a : Nat → Int32} {M : Nat → Nat → Nat} {b : Nat} (h : kd_P4 a M b 4) : kd_P4 a M (b + 1) 0 := fun r hr j hj _ => h r hr j hj (by omega)
theorem kd_P4_set {a : Nat → Int32} {M : Nat → Nat → Nat} {b i : Nat} {v : Int32} (h : kd_P4 a M b i) (hi : i < 4) (hv : v = nI (M b i)) : kd_P4 (upd a (b * 4 + i) v) M b (i + 1) := by
  intro r hr j hj hc
  by_cases e : r = b ∧ j = i
  · obtain ⟨rfl, rfl⟩ := e
    rw [pk_us]
    exact hv
  · rw [pk_un (by omega)]
    exact h r hr j hj (by omega)
theorem kd_ar1 {q s m e R : Nat} (h : s * m + e = R) : s * q * m ≤ q * R := by
  subst h
  rw [Nat.mul_add]
  have : q * (s * m) = s * q * m := by grind
  omega
section
variable {fR fM : Int32} {fD fP : Int64} {fB : Int32} {a1 a2 a3 a4 : Nat → Int32} {a5 a6 a7 a8 a9 : Nat → Int64} {a10 a11 a12 a13 a14 : Nat → Int32}
theorem kd_find96 {post : St2 → Prop} {R s k nn : Nat} (hs : 0 < s ∧ s ≤ R ∧ R ≤ 20) (hk : k < 4) (hn : 0 < nn ∧ nn ≤ 3) (h1 : ∀ j, j < 4 → a1 j = nI (kd_wd k s j)) (h3 : ∀ j, j < 4 → a3 j = nI (if j = k then nn else 0))
    (H : ∀ fD' p s4 s5 s6 s7 s8 s9 s10 s11, 0 < p → p * (R / s) ≤ 160000 → s6 k = lN p → post (fR, nI R, fD', lN (p * (R / s)), fB, a1, a2, a3, s4, s5, s6, s7, s8, s9, s10, s11, a12, a13, a14)) :
    ∀ f c t fD fP a4 a5 a6 a7 a8 a9 a10 a11, 4 - c < f → c ≤ 4 → t ≤ c → (0 < R % s ∨ c = 0) → (∀ b, b < 4 → ∀ i, i < 4 → a4 (b * 4 + i) = nI (kd_Bm k c (R / s) R (R % s) b i)) →
      wX_findPrices_96 post f (nI t) fR (nI R) fD fP fB a1 a2 a3 a4 a5 a6 a7 a8 a9 a10 a11 a12 a13 a14 := by
  obtain ⟨s0, sR, R20⟩ := hs
  have hm : 0 < R / s ∧ R / s ≤ 20 := ⟨Nat.div_pos sR s0, Nat.le_trans (Nat.div_le_self R s) R20⟩
  have hRr : 0 < R ∧ R ≤ 20 := ⟨by omega, R20⟩
  have hes : R % s < s := Nat.mod_lt R s0
  have hdm : s * (R / s) + R % s = R := Nat.div_add_mod R s
  have hVR : ∀ p q, kd_V s p q R = R / s * p + R % s * q := fun _ _ => rfl
  generalize R / s = m at hm hdm hVR H
  generalize R % s = e at hes hdm hVR
  have he : e ≤ 20 := by omega
  intro f
  induction f with
  | zero => intro c t fD fP a4 a5 a6 a7 a8 a9 a10 a11 hf; exact absurd hf (by omega)
  | succ f ih =>
    intro c t fD fP a4 a5 a6 a7 a8 a9 a10 a11 hf hc ht hec hb
    have hRp := kd_R_p (k := k) hm hRr he hec
    have hpp : ∀ j, 0 < kd_pr (kd_d k c m R e) j 4 := fun j => kd_pr_pos (fun i hi => (hRp.1 i hi).1) 4 (by omega)
    have hpl : ∀ j, kd_pr (kd_d k c m R e) j 4 ≤ 160000 := fun j => kd_pr_le (fun i hi => (hRp.1 i hi).2) (by omega)
    have hpa : ∀ j, j < 4 → kd_pr (kd_d k c m R e) 4 4 = kd_pr (kd_d k c m R e) j 4 * kd_d k c m R e j := fun j hj => kd_pr_all hj
    have dk : kd_d k c m R e k = m := if_pos rfl
    have dj : ∀ j, j ≠ k → ¬ j < c → kd_d k c m R e j = R := fun j h1 h2 => by
      unfold kd_d
      rw [if_neg h1, if_neg h2]
    have b0 : ∀ j, kd_Bp k c m R e 4 j 4 = if j ≠ k ∧ j < c then 0 else 1 := fun j => by
      unfold kd_Bp
      rw [if_neg (by omega), if_pos rfl]
      by_cases g : j ≠ k ∧ j < c
      · rw [if_pos g, if_pos ⟨g.1, g.2, hk⟩]
      · rw [if_neg g, if_neg (by omega)]
    refine pk_le 40 t (fun z => absurd z (by omega)) (fun _ => kd_price hRp ?_ ?_ ?_ ?_)
    · intro b hb' i hi
      rw [hb b hb' i hi]
      unfold kd_Bp kd_Bm
      grind
    · intro b hb'
      unfold kd_Bp
      rw [if_neg (by omega), if_pos rfl, if_neg (by omega)]
    · intro b hb'
      unfold kd_Bp
      rw [if_neg (by omega), if_neg (by omega)]
    · intro s5 s6 h6
      refine br_f (by decide) (kd_sound (p := fun j => kd_pr (kd_d k c m R e) j 4 * kd_Bp k c m R e 4 j 4) (fun j hj => ⟨?_, h6 j hj⟩) (hpp 4) (Nat.lt_of_le_of_lt (hpl 4) (by decide)) (br_f (by decide) ?_))
      · exact Nat.lt_of_le_of_lt (Nat.mul_le_mul (hpl j) (hRp.2.1 4 j 4 hj (by omega))) (by decide)
      · by_cases hj : (if c = k then c + 1 else c) < 4
        · generalize hj0 : (if c = k then c + 1 else c) = j0 at hj
          have hj1 : j0 ≠ k ∧ c ≤ j0 ∧ ∀ x, x ≠ k → x < j0 → x < c := by
            split at hj0
            · exact ⟨by omega, by omega, fun x _ _ => by omega⟩
            · exact ⟨by omega, by omega, fun x _ _ => by omega⟩
          obtain ⟨jk, jc, jx⟩ := hj1
          have eD : kd_pr (kd_d k c m R e) k 4 * m = kd_pr (kd_d k c m R e) j0 4 * R := by
            have g1 := hpa k hk
            have g2 := hpa j0 hj
            rw [dk] at g1
            rw [dj j0 jk (by omega)] at g2
            omega
          have eP := hpa k hk
          rw [dk] at eP
          have hq := hpp j0
          have hH : kd_H R s k j0 (kd_pr (kd_d k c m R e) k 4) (kd_pr (kd_d k c m R e) j0 4) (fun j => kd_pr (kd_d k c m R e) j 4 * kd_Bp k c m R e 4 j 4) := by
            refine ⟨⟨s0, sR, R20⟩, ⟨hk, hj, jk⟩, ?_, ⟨hpl k, hpl j0⟩, ⟨?_, ?_⟩, ?_, ?_⟩
            · refine Nat.le_of_mul_le_mul_right (c := m) ?_ hm.1
              rw [eD]
              exact kd_ar1 hdm
            · dsimp only
              rw [b0, if_neg (by omega), Nat.mul_one]
            · dsimp only
              rw [b0, if_neg (by omega), Nat.mul_one]
            · intro j hj' hjk
              dsimp only
              rw [b0]
              by_cases g : j < c
              · rw [if_pos ⟨hjk, g⟩, Nat.mul_zero]
                exact Nat.zero_le _
              · rw [if_neg (by omega), Nat.mul_one]
                have g1 := hpa j hj'
                rw [dj j hjk g, eP, eD] at g1
                exact Nat.le_of_eq (Nat.eq_of_mul_eq_mul_right hRr.1 g1).symm
            · intro j hj' hjk
              dsimp only
              rw [b0, if_pos ⟨hjk, jx j hjk hj'⟩, Nat.mul_zero]
          rw [eP]
          refine kd_most hH h1 h6 (fun t9 t10 t11 ck c0 y1 y2 y3 y4 y5 => ?_)
          rw [hVR] at y4 ⊢
          have hVl : m * kd_pr (kd_d k c m R e) k 4 + e * kd_pr (kd_d k c m R e) j0 4 < 2 ^ 63 := by
            have g1 := Nat.mul_le_mul hm.2 (hpl k)
            have g2 := Nat.mul_le_mul he (hpl j0)
            omega
          have hDl : kd_pr (kd_d k c m R e) k 4 * m ≤ 160000 := by
            rw [← eP]
            exact hpl 4
          have hcm : kd_pr (kd_d k c m R e) k 4 * m = m * kd_pr (kd_d k c m R e) k 4 := Nat.mul_comm _ _
          refine ek_if (pk_lLT (by omega) hVl) (fun g => ?_) (fun _ => H _ _ _ _ _ _ _ _ _ _ (hpp k) hDl ?_)
          · have e0 : 0 < e := by
              rcases Nat.eq_zero_or_pos e with z | z
              · have : e * kd_pr (kd_d k c m R e) j0 4 = 0 := Nat.mul_eq_zero.mpr (Or.inl z)
                omega
              · exact z
            obtain ⟨u1, u2⟩ := kd_uniq s0 hdm hes eD hm.1 e0 hq y4 y5
            subst u1 u2
            refine kd_pivot (E := fun i => if i = k then ck else if i = j0 then c0 else 0) (kd_R_q (k := k) (j0 := j0) (n := nn) hm hRr he hec (by omega) jc) hk hj jk hb ?_ ?_ ?_ ?_ ?_ ?_ ?_ ?_ ?_ ?_
            · intro j hj'
              by_cases g1 : j = k
              · rw [if_pos g1, g1]
                exact ⟨hm.2, y1⟩
              · rw [if_neg g1]
                by_cases g2 : j = j0
                · rw [if_pos g2, g2]
                  exact ⟨he, y2⟩
                · rw [if_neg g2]
                  exact ⟨by omega, y3 j hj' g1 g2⟩
            · intro r hr i hi
              unfold kd_Bq kd_Bm kd_d
              grind
            · intro r hr
              rw [h3 r hr]
              unfold kd_Bq
              rw [if_neg (show ¬ 4 < 4 by omega), if_pos (show 4 = 4 by rfl)]
            · intro r hr
              unfold kd_Bq
              rw [if_neg (by omega), if_neg (by omega)]
            · intro j hj' hjk
              unfold kd_Bq
              rw [if_neg (by omega), if_pos rfl, if_neg hjk]
            · unfold kd_Bq
              rw [if_neg (by omega), if_pos rfl, if_pos rfl]
              exact hn.1
            · unfold kd_Bq
              rw [if_neg (by omega), if_neg (by omega), if_pos rfl]
              exact hm.1
            · unfold kd_Bq
              rw [if_neg (by omega), if_neg (by omega), if_neg jk, if_pos rfl]
              exact e0
            · intro j hj' n1 n2
              unfold kd_Bq
              rw [if_neg (by omega), if_neg (by omega), if_neg n1, if_neg n2]
            · intro s5' s4' s7' s8' hb4
              refine br_f (by decide) (nm_r (nI_1 t) (ih (j0 + 1) (t + 1) _ _ _ _ _ _ _ _ _ _ (by omega) (by omega) (by omega) (Or.inl e0) ?_))
              intro b hb' i hi
              rw [hb4 b hb' i hi]
              exact congrArg nI (kd_Bm_up jk hj0.symm)
          · rw [h6 k hk, b0, if_neg (by omega), Nat.mul_one]
        · have hall : ∀ j, j < 4 → j ≠ k → j < c := by
            intro j hj' hjk
            split at hj
            · omega
            · omega
          have eP := hpa k hk
          rw [dk] at eP
          generalize hj0 : (if k = 0 then 1 else 0) = j0
          have hj1 : j0 ≠ k ∧ j0 < 4 := by
            split at hj0
            · omega
            · omega
          have hH : kd_H R s k j0 (kd_pr (kd_d k c m R e) k 4) 0 (fun j => kd_pr (kd_d k c m R e) j 4 * kd_Bp k c m R e 4 j 4) := by
            have g0 : ∀ j, j < 4 → j ≠ k → kd_pr (kd_d k c m R e) j 4 * kd_Bp k c m R e 4 j 4 = 0 := fun j hj' hjk => by
              rw [b0, if_pos ⟨hjk, hall j hj' hjk⟩, Nat.mul_zero]
            refine ⟨⟨s0, sR, R20⟩, ⟨hk, hj1.2, hj1.1⟩, Nat.zero_le _, ⟨hpl k, by omega⟩, ⟨?_, g0 j0 hj1.2 hj1.1⟩, fun j hj' hjk => Nat.le_of_eq (g0 j hj' hjk), fun j hj' hjk => g0 j (by omega) hjk⟩
            dsimp only
            rw [b0, if_neg (by omega), Nat.mul_one]
          rw [eP]
          refine kd_most hH h1 h6 (fun t9 t10 t11 ck c0 y1 y2 y3 y4 y5 => ?_)
          rw [hVR]
          have hDl : kd_pr (kd_d k c m R e) k 4 * m ≤ 160000 := by
            rw [← eP]
            exact hpl 4
          have hcm : m * kd_pr (kd_d k c m R e) k 4 + e * 0 = kd_pr (kd_d k c m R e) k 4 * m := by
            rw [Nat.mul_zero, Nat.add_zero, Nat.mul_comm]
          rw [hcm]
          refine ek_if (pk_lLT (by omega) (by omega)) (fun g => absurd g (by omega)) (fun _ => H _ _ _ _ _ _ _ _ _ _ (hpp k) hDl ?_)
          rw [h6 k hk, b0, if_neg (by omega), Nat.mul_one]
theorem kd_find9 {post : St2 → Prop} {J : Int32 → (Nat → Int32) → (Nat → Int32) → (Nat → Int32) → (Nat → Int32) → (Nat → Int64) → (Nat → Int64) → (Nat → Int64) → (Nat → Int64) → (Nat → Int64) → (Nat → Int32) → (Nat → Int32) → (Nat → Int32) → (Nat → Int32) → (Nat → Int32) → Prop}
    {R s k b : Nat} (hs : 0 < s ∧ s ≤ R ∧ R ≤ 20) (hb : b < 4) (h1 : ∀ j, j < 4 → a1 j = nI (kd_wd k s j)) (h4 : kd_P4 a4 (kd_Bm k 0 (R / s) R (R % s)) b 0)
    (H : ∀ t, kd_P4 t (kd_Bm k 0 (R / s) R (R % s)) (b + 1) 0 → J (nI (b + 1)) a1 a2 a3 t a5 a6 a7 a8 a9 a10 a11 a12 a13 a14) : ∃ n, wX_findPrices_9 post J (nI b) fR (nI R) fD fP fB n 0 a1 a2 a3 a4 a5 a6 a7 a8 a9 a10 a11 a12 a13 a14 := by
  obtain ⟨s0, sR, R20⟩ := hs
  have hwd : ∀ j, 0 < kd_wd k s j ∧ kd_wd k s j ≤ R := fun j => by
    unfold kd_wd
    split
    · omega
    · omega
  refine pk_loop (fun n i t => wX_findPrices_9 post J (nI b) fR (nI R) fD fP fB n (nI i) a1 a2 a3 t a5 a6 a7 a8 a9 a10 a11 a12 a13 a14) (fun i t => kd_P4 t (kd_Bm k 0 (R / s) R (R % s)) b i) 4 0 a4 (by omega) h4 ?_ ?_
  · intro n t h
    have g := hwd b
    refine pk_le 4 4 (fun _ => ⟨pk_in b 4 hb, pk_le (kd_wd k s b) R (fun _ => nm_r (nI_1 b) (H t (kd_P4_n h))) (fun z => absurd z (by omega)) ?_ rfl⟩) (fun z => absurd z (by omega))
    rw [nI_clamp (by omega), h1 b hb]
  · intro n i t hi h hw
    have g := hwd i
    have ci : a1 (nI i).toNatClampNeg = nI (kd_wd k s i) := by
      rw [nI_clamp (by omega), h1 i hi]
    refine pk_le 4 i (fun z => absurd z (by omega)) (fun _ => pk_eq b i (fun z => ⟨pk_in i 4 hi, pk_lt R (kd_wd k s i) (fun z => absurd z (by omega)) (fun _ => ⟨pk_in i 4 hi, ?_, pk_in (b * 4 + i) 16 (by omega) (kd_ix4 b i), nm_r (e' := upd t (b * 4 + i) (nI (kd_Bm k 0 (R / s) R (R % s) b i))) ?_ (nm_r (nI_1 i) (hw _ (kd_P4_set h hi rfl)))⟩) rfl ci⟩) (fun z => ⟨pk_in (b * 4 + i) 16 (by omega) (kd_ix4 b i), nm_r (e' := upd t (b * 4 + i) (nI (kd_Bm k 0 (R / s) R (R % s) b i))) ?_ (nm_r (nI_1 i) (hw _ (kd_P4_set h hi rfl)))⟩))
    · rw [ci]
      exact nI_ne0 g.1 (by omega)
    · have v : kd_Bm k 0 (R / s) R (R % s) b i = R / kd_wd k s i := by
        unfold kd_Bm kd_d kd_wd
        rw [if_pos z.symm, z]
        by_cases e : i = k
        · rw [if_pos e, if_pos e]
        · rw [if_neg e, if_neg e, if_neg (by omega), Nat.div_one]
      have l : R / kd_wd k s i ≤ R := Nat.div_le_self _ _
      rw [ci, kd_ix4, nI_clamp (by omega), v, pk_div (by omega) g.1 (by omega), kd_b8 _ (by omega)]
    · have v : kd_Bm k 0 (R / s) R (R % s) b i = 0 := by
        unfold kd_Bm
        rw [if_neg (fun y => z y.symm), if_neg (by omega)]
      rw [kd_ix4, nI_clamp (by omega), v]
      rfl
theorem kd_find {post : St2 → Prop} {R s k nn : Nat} (hs : 0 < s ∧ s ≤ R ∧ R ≤ 20) (hk : k < 4) (hn : 0 < nn ∧ nn ≤ 3) (h1 : ∀ j, j < 4 → a1 j = nI (kd_wd k s j)) (h3 : ∀ j, j < 4 → a3 j = nI (if j = k then nn else 0))
    (H : ∀ fD' p s4 s5 s6 s7 s8 s9 s10 s11, 0 < p → p * (R / s) ≤ 160000 → s6 k = lN p → post (fR, nI R, fD', lN (p * (R / s)), fB, a1, a2, a3, s4, s5, s6, s7, s8, s9, s10, s11, a12, a13, a14)) :
    wpX_findPrices post (fR, nI R, fD, fP, fB, a1, a2, a3, a4, a5, a6, a7, a8, a9, a10, a11, a12, a13, a14) := by
  unfold wpX_findPrices
  refine pk_loop (fun n b t => wX_findPrices_2 post fR (nI R) fD fP fB n (nI b) a1 a2 a3 t a5 a6 a7 a8 a9 a10 a11 a12 a13 a14) (fun b t => kd_P4 t (kd_Bm k 0 (R / s) R (R % s)) b 0) 4 0 a4 (by omega) kd_P4_0 ?_ ?_
  · intro n t h
    exact pk_le 4 4 (fun _ => ⟨5, kd_find96 hs hk hn h1 h3 H 5 0 0 _ _ _ _ _ _ _ _ _ _ (by omega) (by omega) (by omega) (Or.inr rfl) (fun b hb i hi => h b hb i hi (by omega))⟩) (fun z => absurd z (by omega))
  · intro n b t hb h hw
    exact pk_le 4 b (fun z => absurd z (by omega)) (fun _ => kd_find9 hs hb h1 h (fun t' h' => hw t' h'))
end
end
section
section
variable {fR fM : Int32} {fD fP : Int64} {fB : Int32} {a1 a2 a3 a4 : Nat → Int32} {a5 a6 a7 a8 a9 : Nat → Int64} {a10 a11 a12 a13 a14 : Nat → Int32}
theorem kd_served {post : Int32 → Prop} {r k st : Nat} (hr : r < 13) (hk : k < 4) (hst : st ≤ 3) (h : ∀ j, j < 4 → a12 (r * 4 + j) = nI (if j = k then st else 0)) (H0 : st = 0 → post 1) (H1 : 0 < st → post 0) : wpX_served post (fR, fM, fD, fP, fB, a1, a2, a3, a4, a5, a6, a7, a8, a9, a10, a11, a12, a13, a14) (nI r) := by
  unfold wpX_served
  have hx : ∀ j, j < 4 → a12 (nI r * 4 + nI j).toNatClampNeg = nI (if j = k then st else 0) := fun j hj => by
    rw [kd_ix4, nI_clamp (by omega)]
    exact h j hj
  rcases Nat.eq_zero_or_pos st with z | z
  · refine pk_loop (σ := Unit) (fun n i _ => wX_served_2 post (nI r) fR fM fD fP fB a1 a2 a3 a4 a5 a6 a7 a8 a9 a10 a11 a12 a13 a14 n (nI i)) (fun _ _ => True) 4 0 () (by omega) trivial ?_ ?_
    · intro n _ _
      exact pk_le 4 4 (fun _ => H0 z) (fun z => absurd z (by omega))
    · intro n i _ hi _ hw
      refine pk_le 4 i (fun z => absurd z (by omega)) (fun _ => ⟨pk_in (r * 4 + i) 56 (by omega) (kd_ix4 r i), pk_le 0 0 (fun _ => nm_r (nI_1 i) (hw () trivial)) (fun z => absurd z (by omega)) ?_⟩)
      rw [hx i hi, z]
      split
      · rfl
      · rfl
  · refine pk_loop (σ := Unit) (fun n i _ => wX_served_2 post (nI r) fR fM fD fP fB a1 a2 a3 a4 a5 a6 a7 a8 a9 a10 a11 a12 a13 a14 n (nI i)) (fun _ _ => True) k 0 () (by omega) trivial ?_ ?_
    · intro n _ _
      refine pk_le 4 k (fun z => absurd z (by omega)) (fun _ => ⟨pk_in (r * 4 + k) 56 (by omega) (kd_ix4 r k), pk_le st 0 (fun y => absurd y (by omega)) (fun _ => H1 z) ?_⟩)
      rw [hx k hk, if_pos rfl]
    · intro n i _ hi _ hw
      refine pk_le 4 i (fun z => absurd z (by omega)) (fun _ => ⟨pk_in (r * 4 + i) 56 (by omega) (kd_ix4 r i), pk_le 0 0 (fun _ => nm_r (nI_1 i) (hw () trivial)) (fun z => absurd z (by omega)) ?_⟩)
      rw [hx i (by omega), if_neg (by omega)]
theorem kd_fill43 {post : St2 → Prop} {J : Int32 → Int32 → (Nat → Int32) → (Nat → Int32) → (Nat → Int32) → (Nat → Int32) → (Nat → Int64) → (Nat → Int64) → (Nat → Int64) → (Nat → Int64) → (Nat → Int64) → (Nat → Int32) → (Nat → Int32) → (Nat → Int32) → (Nat → Int32) → (Nat → Int32) → Prop}
    {r k s g st fr i : Nat} (hr : r < 13) (hk : k < 4) (hg : g ≤ 20) (hst : st ≤ 3) (hfr : fr ≤ 20) (hs : s ≤ 20) (h1 : ∀ j, j < 4 → a1 j = nI (kd_wd k s j))
    (h12 : ∀ j, j < 4 → a12 (r * 4 + j) = nI (if j = k then st else 0)) (h13 : ∀ j, j < 4 → a13 (r * 4 + j) = nI (if j = k then g else 0))
    (F1 : g < st → s ≤ fr → J (nI (fr - s)) (nI (i + 1)) a1 a2 a3 a4 a5 a6 a7 a8 a9 a10 a11 a12 (upd a13 (r * 4 + k) (nI (g + 1))) a14) (F0 : ¬ (g < st ∧ s ≤ fr) → J (nI fr) (nI (i + 1)) a1 a2 a3 a4 a5 a6 a7 a8 a9 a10 a11 a12 a13 a14) :
    ∃ n, wX_fillWidest_43 post J (nI r) (nI fr) (nI i) fR fM fD fP fB a1 a2 a3 a4 a5 a6 a7 a8 a9 a10 a11 a12 a13 a14 n (-1) 0 := by
  have x12 : ∀ j, j < 4 → a12 (nI r * 4 + nI j).toNatClampNeg = nI (if j = k then st else 0) := fun j hj => by
    rw [kd_ix4, nI_clamp (by omega)]
    exact h12 j hj
  have x13 : ∀ j, j < 4 → a13 (nI r * 4 + nI j).toNatClampNeg = nI (if j = k then g else 0) := fun j hj => by
    rw [kd_ix4, nI_clamp (by omega)]
    exact h13 j hj
  have w1 : a1 (nI k).toNatClampNeg = nI s := by
    rw [nI_clamp (by omega), h1 k hk]
    exact congrArg nI (if_pos rfl)
  have main := pk_loop (σ := Unit) (fun n j _ => wX_fillWidest_43 post J (nI r) (nI fr) (nI i) fR fM fD fP fB a1 a2 a3 a4 a5 a6 a7 a8 a9 a10 a11 a12 a13 a14 n (if (g < st ∧ s ≤ fr) ∧ k < j then nI k else -1) (nI j)) (fun _ _ => True) 4 0 () (by omega) trivial ?_ ?_
  · obtain ⟨n, hn⟩ := main
    rw [if_neg (by omega)] at hn
    exact ⟨n, hn⟩
  · intro n _ _
    refine pk_le 4 4 (fun _ => ?_) (fun z => absurd z (by omega))
    by_cases c : g < st ∧ s ≤ fr
    · rw [if_pos ⟨c, hk⟩]
      refine br_f (nI_pos (by omega)) ⟨pk_in (r * 4 + k) 56 (by omega) (kd_ix4 r k), pk_in (r * 4 + k) 56 (by omega) (kd_ix4 r k), nm_r (e' := upd a13 (r * 4 + k) (nI (g + 1))) ?_ ⟨pk_in k 4 hk, nm_r (e' := nI (fr - s)) ?_ (nm_r (nI_1 i) (F1 c.1 c.2))⟩⟩
      · rw [x13 k hk, if_pos rfl, kd_b8s (by omega), kd_ix4, nI_clamp (by omega)]
      · rw [w1, pk_sub c.2]
    · rw [if_neg (fun t => c t.1)]
      exact br_t kd_m1 (nm_r (nI_1 i) (F0 c))
  · intro n j _ hj _ hw
    have hw' := hw () trivial
    refine pk_le 4 j (fun z => absurd z (by omega)) (fun _ => ⟨pk_in (r * 4 + j) 56 (by omega) (kd_ix4 r j), pk_in (r * 4 + j) 56 (by omega) (kd_ix4 r j), ?_⟩)
    rw [x12 j hj, x13 j hj]
    by_cases e : j = k
    · subst e
      rw [if_pos rfl, if_pos rfl, if_neg (show ¬ ((g < st ∧ s ≤ fr) ∧ j < j) by omega)]
      refine pk_le st g (fun z => ?_) (fun z => ⟨pk_in j 4 hj, pk_lt fr s (fun z2 => ?_) (fun z2 => ?_) rfl w1⟩)
      · rw [if_neg (by omega)] at hw'
        exact br_t rfl (nm_r (nI_1 j) hw')
      · rw [if_neg (by omega)] at hw'
        exact br_t rfl (nm_r (nI_1 j) hw')
      · rw [if_pos ⟨⟨z, z2⟩, by omega⟩] at hw'
        exact br_f (by decide) (br_t kd_m1 (nm_r (nI_1 j) hw'))
    · rw [if_neg e, if_neg e]
      refine pk_le 0 0 (fun _ => br_t rfl (nm_r (nI_1 j) ?_)) (fun z => absurd z (by omega))
      have w2 : ((g < st ∧ s ≤ fr) ∧ k < j + 1) = ((g < st ∧ s ≤ fr) ∧ k < j) := propext (by omega)
      simp only [w2] at hw'
      exact hw'
theorem kd_fill {post : St2 → Prop} {r k s st R : Nat} (hs : 0 < s ∧ s ≤ R ∧ R ≤ 20) (hr : r < 13) (hk : k < 4) (hst : st ≤ 3) (h1 : ∀ j, j < 4 → a1 j = nI (kd_wd k s j))
    (h12 : ∀ j, j < 4 → a12 (r * 4 + j) = nI (if j = k then st else 0)) (H : ∀ z, (∀ j, j < 4 → z (r * 4 + j) = nI (if j = k then min (R / s) st else 0)) → post (fR, nI R, fD, fP, fB, a1, a2, a3, a4, a5, a6, a7, a8, a9, a10, a11, a12, z, a14)) : wpX_fillWidest post (fR, nI R, fD, fP, fB, a1, a2, a3, a4, a5, a6, a7, a8, a9, a10, a11, a12, a13, a14) (nI r) := by
  obtain ⟨s0, sR, R20⟩ := hs
  have hm20 : R / s ≤ 20 := Nat.le_trans (Nat.div_le_self R s) R20
  unfold wpX_fillWidest
  refine pk_loop (fun n i z => wX_fillWidest_7 post (nI r) (nI R) fR (nI R) fD fP fB n (nI i) a1 a2 a3 a4 a5 a6 a7 a8 a9 a10 a11 a12 z a14) (fun i z => ∀ j, j < i → z (r * 4 + j) = nI 0) 4 0 a13 (by omega) (fun j hj => absurd hj (by omega)) ?_ ?_
  · intro n z hz
    refine pk_le 4 4 (fun _ => ?_) (fun z => absurd z (by omega))
    have main := pk_loop (fun n i z => wX_fillWidest_31 post (nI r) fR (nI R) fD fP fB n (nI (R - min i (min (R / s) st) * s)) (nI i) a1 a2 a3 a4 a5 a6 a7 a8 a9 a10 a11 a12 z a14) (fun i z => ∀ j, j < 4 → z (r * 4 + j) = nI (if j = k then min i (min (R / s) st) else 0)) 12 0 z (by omega) ?_ ?_ ?_
    · obtain ⟨n, hn⟩ := main
      rw [Nat.zero_min, Nat.zero_mul, Nat.sub_zero] at hn
      exact ⟨n, hn⟩
    · intro j hj
      rw [hz j hj, Nat.zero_min]
      split
      · rfl
      · rfl
    · intro n z hz
      refine pk_le 12 12 (fun _ => H z (fun j hj => ?_)) (fun z => absurd z (by omega))
      rw [hz j hj, show min 12 (min (R / s) st) = min (R / s) st by omega]
    · intro n i z hi hz hw
      refine pk_le 12 i (fun z => absurd z (by omega)) (fun _ => kd_fill43 hr hk (g := min i (min (R / s) st)) (by omega) hst (by omega) (by omega) h1 h12 hz (fun z1 z2 => ?_) (fun z1 => ?_))
      · have gm : min i (min (R / s) st) < R / s := by
          have := (Nat.le_div_iff_mul_le (x := min i (min (R / s) st) + 1) s0 (y := R)).mpr (by rw [Nat.succ_mul]; omega)
          omega
        have e1 : min (i + 1) (min (R / s) st) = min i (min (R / s) st) + 1 := by omega
        have hw' := hw (upd z (r * 4 + k) (nI (min i (min (R / s) st) + 1))) (fun j hj => by
          rw [e1]
          by_cases e : j = k
          · rw [e, pk_us, if_pos rfl]
          · rw [pk_un (by omega), hz j hj, if_neg e, if_neg e])
        rw [e1, Nat.succ_mul, Nat.sub_add_eq] at hw'
        exact hw'
      · have e1 : min (i + 1) (min (R / s) st) = min i (min (R / s) st) := by
          rcases Nat.lt_or_ge (min i (min (R / s) st)) (min (R / s) st) with y | y
          · have y2 := (Nat.le_div_iff_mul_le (x := min i (min (R / s) st) + 1) s0 (y := R)).mp (by omega)
            rw [Nat.succ_mul] at y2
            exact absurd ⟨by omega, by omega⟩ z1
          · omega
        have hw' := hw z (fun j hj => by rw [e1]; exact hz j hj)
        rw [e1] at hw'
        exact hw'
  · intro n i z hi hz hw
    refine pk_le 4 i (fun z => absurd z (by omega)) (fun _ => ⟨pk_in (r * 4 + i) 56 (by omega) (kd_ix4 r i), nm_r (e' := upd z (r * 4 + i) (nI 0)) ?_ (nm_r (nI_1 i) (hw _ ?_))⟩)
    · rw [kd_ix4, nI_clamp (by omega)]
      rfl
    · intro j hj
      by_cases e : j = i
      · rw [e, pk_us]
      · rw [pk_un (by omega)]
        exact hz j (by omega)
theorem kd_take {post : St2 → Prop} {r k st g : Nat} (hr : r < 12) (hk : k < 4) (hst : st ≤ 3) (hg : g ≤ st) (h12 : ∀ j, j < 4 → a12 (r * 4 + j) = nI (if j = k then st else 0)) (h13 : ∀ j, j < 4 → a13 (r * 4 + j) = nI (if j = k then g else 0))
    (H : ∀ z, (∀ j, j < 4 → z ((r + 1) * 4 + j) = nI (if j = k then st - g else 0)) → (∀ j, j < (r + 1) * 4 → z j = a12 j) → post (fR, fM, fD, fP, fB, a1, a2, a3, a4, a5, a6, a7, a8, a9, a10, a11, z, a13, a14)) : wpX_takeOff post (fR, fM, fD, fP, fB, a1, a2, a3, a4, a5, a6, a7, a8, a9, a10, a11, a12, a13, a14) (nI r) := by
  unfold wpX_takeOff
  refine pk_loop (fun n i z => wX_takeOff_2 post (nI r) fR fM fD fP fB n (nI i) a1 a2 a3 a4 a5 a6 a7 a8 a9 a10 a11 z a13 a14) (fun i z => (∀ j, j < i → z ((r + 1) * 4 + j) = nI (if j = k then st - g else 0)) ∧ (∀ j, j < (r + 1) * 4 → z j = a12 j)) 4 0 a12 (by omega) ⟨fun j hj => absurd hj (by omega), fun j _ => rfl⟩ ?_ ?_
  · intro n z hz
    exact pk_le 4 4 (fun _ => H z hz.1 hz.2) (fun z => absurd z (by omega))
  · rintro n i z hi ⟨z1, z2⟩ hw
    have hv : z (nI r * 4 + nI i).toNatClampNeg - a13 (nI r * 4 + nI i).toNatClampNeg = nI (if i = k then st - g else 0) := by
      rw [kd_ix4, nI_clamp (by omega), z2 _ (by omega), h12 i hi, h13 i hi]
      by_cases e : i = k
      · rw [if_pos e, if_pos e, if_pos e, pk_sub hg]
      · rw [if_neg e, if_neg e, if_neg e]
        rfl
    have hv3 : (if i = k then st - g else 0) ≤ 3 := by
      split
      · omega
      · omega
    generalize hvv : (if i = k then st - g else 0) = v at hv hv3
    have hW : wX_takeOff_2 post (nI r) fR fM fD fP fB n (nI (i + 1)) a1 a2 a3 a4 a5 a6 a7 a8 a9 a10 a11 (upd z ((r + 1) * 4 + i) (nI v)) a13 a14 := by
      refine hw _ ⟨fun j hj => ?_, fun j hj => ?_⟩
      · by_cases e : j = i
        · rw [e, pk_us, hvv]
        · rw [pk_un (by omega)]
          exact z1 j (by omega)
      · rw [pk_un (by omega)]
        exact z2 j hj
    have hix : ((nI r + 1) * 4 + nI i).toNatClampNeg = (r + 1) * 4 + i := pk_cl ((r + 1) * 4 + i) (kd_ix4s r i)
    refine pk_le 4 i (fun z => absurd z (by omega)) (fun _ => ⟨pk_in (r * 4 + i) 56 (by omega) (kd_ix4 r i), pk_in (r * 4 + i) 56 (by omega) (kd_ix4 r i), nm_r hv (pk_le v 0 (fun y => ⟨pk_in ((r + 1) * 4 + i) 56 (by omega) (kd_ix4s r i), nm_r (e' := upd z ((r + 1) * 4 + i) (nI v)) ?_ (nm_r (nI_1 i) hW)⟩) (fun y => ⟨pk_in ((r + 1) * 4 + i) 56 (by omega) (kd_ix4s r i), nm_r (e' := upd z ((r + 1) * 4 + i) (nI v)) ?_ (nm_r (nI_1 i) hW)⟩))⟩)
    · rw [hix, show v = 0 by omega]
      rfl
    · rw [hix, kd_b8 v (by omega)]
theorem kd_falling {post : Int32 → St2 → Prop} {k s nn R : Nat} (hs : 0 < s ∧ s ≤ R ∧ R ≤ 20) (hk : k < 4) (hn : nn ≤ 3) (h1 : ∀ j, j < 4 → a1 j = nI (kd_wd k s j)) (h12 : ∀ j, j < 4 → a12 j = nI (if j = k then nn else 0))
    (H : ∀ y z, (∀ j, j < 4 → y j = nI (if j = k then nn else 0)) → post (nI ((nn + R / s - 1) / (R / s))) (fR, nI R, fD, fP, fB, a1, a2, a3, a4, a5, a6, a7, a8, a9, a10, a11, y, z, a14)) : wpX_byFallingWidths post (fR, nI R, fD, fP, fB, a1, a2, a3, a4, a5, a6, a7, a8, a9, a10, a11, a12, a13, a14) := by
  have hm : 0 < R / s := Nat.div_pos hs.2.1 hs.1
  have hN : ∀ r, r < (nn + R / s - 1) / (R / s) ↔ r * (R / s) < nn := fun r => by
    have := Nat.le_div_iff_mul_le (x := r + 1) (y := nn + R / s - 1) hm
    rw [Nat.succ_mul] at this
    omega
  have hr3 : ∀ r, r * (R / s) < nn → r < 3 := fun r h => by
    have := Nat.le_mul_of_pos_right r hm
    omega
  have hN3 : (nn + R / s - 1) / (R / s) ≤ 3 := by
    rcases Nat.lt_or_ge 3 ((nn + R / s - 1) / (R / s)) with z | z
    · have := hr3 3 ((hN 3).mp z)
      omega
    · exact z
  have hNN : nn ≤ (nn + R / s - 1) / (R / s) * (R / s) := by
    have := hN ((nn + R / s - 1) / (R / s))
    omega
  generalize (nn + R / s - 1) / (R / s) = N at hN hN3 hNN H
  unfold wpX_byFallingWidths
  refine pk_loop (σ := (Nat → Int32) × (Nat → Int32)) (fun n r z => wX_byFallingWidths_4 post n (nI r) (nI r) fR (nI R) fD fP fB a1 a2 a3 a4 a5 a6 a7 a8 a9 a10 a11 z.1 z.2 a14) (fun r z => (∀ j, j < 4 → z.1 j = nI (if j = k then nn else 0)) ∧ (∀ j, j < 4 → z.1 (r * 4 + j) = nI (if j = k then nn - r * (R / s) else 0))) N 0 (a12, a13) (by omega) ⟨h12, fun j hj => ?_⟩ ?_ ?_
  · dsimp only
    rw [Nat.zero_mul, Nat.zero_mul, Nat.zero_add, Nat.sub_zero]
    exact h12 j hj
  · rintro n ⟨y, z⟩ ⟨g1, g2⟩
    exact pk_le 12 N (fun z => absurd z (by omega)) (fun _ => kd_served (by omega) hk (by omega) g2 (fun _ => br_f (by decide) (H y z g1)) (fun w => absurd w (by omega)))
  · rintro n r ⟨y, z⟩ hr ⟨g1, g2⟩ hw
    dsimp only at g1 g2
    have e1 := (hN r).mp hr
    have e2 := hr3 r e1
    refine pk_le 12 r (fun z => absurd z (by omega)) (fun _ => kd_served (by omega) hk (by omega) g2 (fun w => absurd w (by omega)) (fun _ => br_t rfl (kd_fill hs (by omega) hk (by omega) h1 g2 (fun z' hz' => kd_take (by omega) hk (by omega) (Nat.min_le_right _ _) g2 hz' (fun y' y1 y2 => nm_r (nI_1 r) (nm_r (nI_1 r) (hw (y', z') ⟨fun j hj => ?_, fun j hj => ?_⟩)))))))
    · dsimp only
      rw [y2 j (by omega)]
      exact g1 j hj
    · dsimp only
      rw [y1 j hj, Nat.succ_mul]
      refine congrArg nI ?_
      split
      · omega
      · rfl
end
end
section
theorem kd_ceil {p n m : Nat} (hp : 0 < p) (hm : 0 < m) : (p * n + p * m - 1) / (p * m) = (n + m - 1) / m := by
  rw [← Nat.div_div_eq_div_mul]
  refine congrArg (· / m) ?_
  obtain ⟨x, hx⟩ : ∃ x, n + m = x + 1 := ⟨n + m - 1, by omega⟩
  have e : p * n + p * m - 1 = p * x + (p - 1) := by
    rw [← Nat.mul_add, hx, Nat.mul_succ]
    omega
  rw [e, Nat.mul_add_div hp, Nat.div_eq_of_lt (by omega)]
  omega
section
variable {fR fM : Int32} {fD fP : Int64} {fB : Int32} {a1 a2 a3 a4 : Nat → Int32} {a5 a6 a7 a8 a9 : Nat → Int64} {a10 a11 a12 a13 a14 : Nat → Int32}
theorem kd_bound {post : Int32 → Prop} {k p m nn : Nat} (hk : k < 4) (hn : nn ≤ 3) (hp : 0 < p) (hm : 0 < m) (hpm : p * m ≤ 160000) (h6 : a6 k = lN p) (h12 : ∀ j, j < 4 → a12 j = nI (if j = k then nn else 0))
    (H : post (nI ((nn + m - 1) / m))) : wpX_boundAt post (fR, fM, fD, lN (p * m), fB, a1, a2, a3, a4, a5, a6, a7, a8, a9, a10, a11, a12, a13, a14) 0 := by
  have hp2 : p ≤ 160000 := Nat.le_trans (Nat.le_mul_of_pos_right p hm) hpm
  have hpn : p * nn ≤ 160000 * 3 := Nat.mul_le_mul hp2 hn
  have hpos : 0 < p * m := Nat.mul_pos hp hm
  unfold wpX_boundAt
  have main := pk_loop (σ := Unit) (fun n j _ => wX_boundAt_5 post 0 fR fM fD (lN (p * m)) fB a1 a2 a3 a4 a5 a6 a7 a8 a9 a10 a11 a12 a13 a14 n (lN (if k < j then p * nn else 0)) (nI j)) (fun _ _ => True) 4 0 () (by omega) trivial ?_ ?_
  · obtain ⟨n, hn⟩ := main
    rw [if_neg (by omega)] at hn
    exact ⟨n, hn⟩
  · intro n _ _
    refine pk_le 4 4 (fun _ => br_f (kd_lgt hpos (by omega)) ⟨kd_l0 hpos (by omega), ?_⟩) (fun z => absurd z (by omega))
    have e : (lN (p * nn) + lN (p * m) - 1) / lN (p * m) = lN ((nn + m - 1) / m) := by
      rw [lN_add, show lN (p * nn + p * m) - 1 = lN (p * nn + p * m - 1) from lN_sub (b := 1) (by omega), pk_lDiv (by omega) hpos (by omega), kd_ceil hp hm]
    rw [if_pos hk, e, lN_i]
    exact H
  · intro n j _ hj _ hw
    have hx : ((0 : Int32) * 4 + nI j).toNatClampNeg = 0 * 4 + j := pk_cl (0 * 4 + j) (kd_ix4 0 j)
    have hw' := hw () trivial
    refine pk_le 4 j (fun z => absurd z (by omega)) (fun _ => ⟨pk_in j 4 hj, pk_in (0 * 4 + j) 56 (by omega) (kd_ix4 0 j), nm_r (e' := lN (if k < j + 1 then p * nn else 0)) ?_ (nm_r (nI_1 j) hw')⟩)
    rw [hx, Nat.zero_mul, Nat.zero_add, nI_clamp (by omega), h12 j hj]
    by_cases e : j = k
    · rw [if_pos e, e, h6, nI_l (by omega), lN_mul, lN_add, if_neg (by omega), if_pos (by omega), Nat.zero_add]
    · rw [if_neg e, nI_l (by omega)]
      have z : a6 j * lN 0 = lN 0 := Int64.mul_zero
      rw [z, lN_add, Nat.add_zero]
      have w2 : (k < j + 1) = (k < j) := propext (by omega)
      simp only [w2]
theorem kd_solve {post : Int32 → St2 → Prop} {k s nn R : Nat} (hs : 0 < s ∧ s ≤ R ∧ R ≤ 20) (hk : k < 4) (hn : nn ≤ 3) (h1 : ∀ j, j < 4 → a1 j = nI (kd_wd k s j)) (h3 : ∀ j, j < 4 → a3 j = nI (if j = k then nn else 0))
    (H : ∀ fD' fP' fB' s4 s5 s6 s7 s8 s9 s10 s11 s12 s13 s14, post (nI ((nn + R / s - 1) / (R / s))) (fR, nI R, fD', fP', fB', a1, a2, a3, s4, s5, s6, s7, s8, s9, s10, s11, s12, s13, s14)) : wpX_solve post (fR, nI R, fD, fP, fB, a1, a2, a3, a4, a5, a6, a7, a8, a9, a10, a11, a12, a13, a14) := by
  have hm : 0 < R / s := Nat.div_pos hs.2.1 hs.1
  unfold wpX_solve
  have main := pk_loop (fun n i z => wX_solve_4 post fR (nI R) fD fP fB n (nI (if k < i then nn else 0)) (nI i) a1 a2 a3 a4 a5 a6 a7 a8 a9 a10 a11 z a13 a14) (fun i z => ∀ j, j < i → z j = nI (if j = k then nn else 0)) 4 0 a12 (by omega) (fun j hj => absurd hj (by omega)) ?_ ?_
  · obtain ⟨n, hn⟩ := main
    rw [if_neg (by omega)] at hn
    exact ⟨n, hn⟩
  · intro n z hz
    refine pk_le 4 4 (fun _ => ?_) (fun z => absurd z (by omega))
    rw [if_pos hk]
    refine pk_eq nn 0 (fun e => ?_) (fun e => ?_)
    · have h0 := H fD fP fB a4 a5 a6 a7 a8 a9 a10 a11 z a13 a14
      rw [e, Nat.zero_add, Nat.div_eq_of_lt (by omega)] at h0
      exact h0
    · refine kd_find hs hk ⟨by omega, hn⟩ h1 h3 (fun fD' p s4 s5 s6 s7 s8 s9 s10 s11 hp hpm h6 => ?_)
      refine kd_falling hs hk hn h1 hz (fun y z' hy => ?_)
      refine kd_bound hk hn hp hm hpm h6 hy ?_
      exact pk_le _ _ (fun _ => H _ _ _ _ _ _ _ _ _ _ _ _ _ _) (fun z => absurd z (Nat.lt_irrefl _)) rfl rfl (Nat.lt_of_le_of_lt (Nat.div_le_self _ _) (by have := Nat.div_le_self R s; omega)) (Nat.lt_of_le_of_lt (Nat.div_le_self _ _) (by have := Nat.div_le_self R s; omega))
  · intro n i z hi hz hw
    have g3 : (if i = k then nn else 0) ≤ 3 := by
      split
      · omega
      · omega
    refine pk_le 4 i (fun z => absurd z (by omega)) (fun _ => ⟨pk_in i 4 hi, nm_r (e' := nI (if k < i + 1 then nn else 0)) ?_ ⟨pk_in i 4 hi, pk_in i 56 (by omega), nm_r (e' := upd z i (nI (if i = k then nn else 0))) ?_ (nm_r (nI_1 i) (hw _ ?_))⟩⟩)
    · rw [nI_clamp (by omega), h3 i hi, nI_add]
      refine congrArg nI ?_
      by_cases e : i = k
      · rw [if_pos e, if_neg (by omega), if_pos (by omega), Nat.zero_add]
      · rw [if_neg e, Nat.add_zero]
        have w2 : (k < i + 1) = (k < i) := propext (by omega)
        simp only [w2]
    · rw [nI_clamp (by omega), h3 i hi, kd_nb (by omega)]
    · intro j hj
      by_cases e : j = i
      · rw [e, pk_us]
      · rw [pk_un e]
        exact hz j (by omega)
theorem kd_ask {post : St2 → Prop} {o : Nat → Nat} (h2 : ∀ j, j < 4 → o j ≤ 3 ∧ a2 j = nI (o j)) (H : ∀ z, (∀ j, j < 4 → z j = nI (o j)) → post (fR, fR, fD, fP, fB, a1, a2, z, a4, a5, a6, a7, a8, a9, a10, a11, a12, a13, a14)) : wpX_askPlainly post (fR, fM, fD, fP, fB, a1, a2, a3, a4, a5, a6, a7, a8, a9, a10, a11, a12, a13, a14) := by
  unfold wpX_askPlainly
  refine pk_loop (fun n i z => wX_askPlainly_10 post fR fR fD fP fB n (nI i) a1 a2 z a4 a5 a6 a7 a8 a9 a10 a11 a12 a13 a14) (fun i z => ∀ j, j < i → z j = nI (o j)) 4 0 a3 (by omega) (fun j hj => absurd hj (by omega)) ?_ ?_
  · intro n z hz
    exact pk_le 4 4 (fun _ => H z hz) (fun z => absurd z (by omega))
  · intro n i z hi hz hw
    obtain ⟨g1, g2⟩ := h2 i hi
    refine pk_le 4 i (fun z => absurd z (by omega)) (fun _ => ⟨pk_in i 4 hi, pk_in i 4 hi, nm_r (e' := upd z i (nI (o i))) ?_ (nm_r (nI_1 i) (hw _ ?_))⟩)
    · rw [nI_clamp (by omega), g2, kd_nb (by omega)]
    · intro j hj
      by_cases e : j = i
      · rw [e, pk_us]
      · rw [pk_un e]
        exact hz j (by omega)
theorem kd_o3 {k nn j : Nat} (hn : nn ≤ 3) : (if j = k then nn else 0) ≤ 3 := by
  split
  · omega
  · omega
theorem kd_least {post : Int32 → St2 → Prop} {k s nn R : Nat} (hs : 0 < s ∧ s ≤ R ∧ R ≤ 20) (hk : k < 4) (hn : nn ≤ 3) (h1 : ∀ j, j < 4 → a1 j = nI (kd_wd k s j)) (h2 : ∀ j, j < 4 → a2 j = nI (if j = k then nn else 0))
    (H : ∀ fM' fD' fP' fB' s3 s4 s5 s6 s7 s8 s9 s10 s11 s12 s13 s14, post (nI ((nn + R / s - 1) / (R / s))) (nI R, fM', fD', fP', fB', a1, a2, s3, s4, s5, s6, s7, s8, s9, s10, s11, s12, s13, s14)) : wpX_least post (nI R, fM, fD, fP, fB, a1, a2, a3, a4, a5, a6, a7, a8, a9, a10, a11, a12, a13, a14) := by
  unfold wpX_least
  exact kd_ask (fun j hj => ⟨kd_o3 hn, h2 j hj⟩) (fun z hz => kd_solve hs hk hn h1 hz (fun fD' fP' fB' s4 s5 s6 s7 s8 s9 s10 s11 s12 s13 s14 => H _ _ _ _ _ _ _ _ _ _ _ _ _ _ _ _))
theorem kd_kind {post : Int32 → Prop} {k : Nat} (hk : k < 4) (H : post 1) : wpX_isKind post () (nI k) :=
  br_f (nI_pos (by omega)) (pk_le 4 k (fun z => absurd z (by omega)) (fun _ => H))
theorem kd_nokind {post : Int32 → Prop} {x : Int32} (hx : x < 0 ∨ 3 < x) (H : post 0) : wpX_isKind post () x := by
  unfold wpX_isKind
  rcases hx with h | h
  · exact br_t h H
  · refine br_c (fun _ => H) (fun _ => br_t ?_ H)
    rw [Int32.lt_iff_toInt_lt] at h
    rw [Int32.le_iff_toInt_le]
    have e3 : (3 : Int32).toInt = 3 := by decide
    have e4 : (4 : Int32).toInt = 4 := by decide
    omega
theorem kd_lwith {post : Int32 → St2 → Prop} {k s nn v R : Nat} (hs : 0 < s ∧ s ≤ R ∧ R ≤ 20) (hk : k < 4) (hn : nn ≤ 3) (hv : v ≤ 3) (h1 : ∀ j, j < 4 → a1 j = nI (kd_wd k s j)) (h2 : ∀ j, j < 4 → a2 j = nI (if j = k then nn else 0))
    (H : ∀ fM' fD' fP' fB' s3 s4 s5 s6 s7 s8 s9 s10 s11 s12 s13 s14, post (nI ((v + R / s - 1) / (R / s))) (nI R, fM', fD', fP', fB', a1, a2, s3, s4, s5, s6, s7, s8, s9, s10, s11, s12, s13, s14)) : wpX_leastWith post (nI R, fM, fD, fP, fB, a1, a2, a3, a4, a5, a6, a7, a8, a9, a10, a11, a12, a13, a14) (nI k) (nI v) := by
  unfold wpX_leastWith
  refine kd_kind hk (br_f (by decide) (br_f (nI_pos (by omega)) (pk_le v 3 (fun _ => ?_) (fun z => absurd z (by omega)))))
  refine kd_ask (fun j hj => ⟨kd_o3 hn, h2 j hj⟩) (fun z hz => ⟨pk_in k 4 hk, nm_r (e' := upd z k (nI v)) ?_ ?_⟩)
  · rw [nI_clamp (by omega), kd_b8 v (by omega)]
  · refine kd_solve hs hk hv h1 (fun j hj => ?_) (fun fD' fP' fB' s4 s5 s6 s7 s8 s9 s10 s11 s12 s13 s14 => H _ _ _ _ _ _ _ _ _ _ _ _ _ _ _ _)
    by_cases e : j = k
    · rw [e, pk_us, if_pos rfl]
    · rw [pk_un e, hz j hj, if_neg e, if_neg e]
end
end
section
theorem kd_clamp (x : Int32) : ∃ R : Nat, 0 < R ∧ R ≤ 20 ∧ ∀ P : Int32 → Prop, P (nI R) → ((1 ≤ x → ((x ≤ 20 → P x) ∧ (¬ x ≤ 20 → P 20))) ∧ (¬ 1 ≤ x → P 1)) := by
  by_cases h1 : (1 : Int32) ≤ x
  · by_cases h2 : x ≤ 20
    · have h0 : ¬ x < 0 := by
        rw [Int32.lt_iff_toInt_lt]
        rw [Int32.le_iff_toInt_le] at h1
        have e0 : (0 : Int32).toInt = 0 := by decide
        have e1 : (1 : Int32).toInt = 1 := by decide
        omega
      obtain ⟨j, hj, rfl⟩ := nI_of2 (n := 20) (M := 20) (by decide) h0 h2
      have h3 : 1 ≤ j := (nI_leI (a := 1) (by decide) (by omega)).mp h1
      exact ⟨j, h3, hj, fun P h => br_t h1 (br_t h2 h)⟩
    · exact ⟨20, by decide, by decide, fun P h => br_t h1 (br_f h2 h)⟩
  · exact ⟨1, by decide, by decide, fun P h => br_f h1 h⟩
/-- what setWidth makes of w: g its answer, s the width of kind k afterwards -/
def kd_G (x : Int32) (R : Nat) (g : Int32) (s : Nat) : Prop := (g = 1 ∧ x = nI s ∧ 0 < s ∧ s ≤ R) ∨ (g = 0 ∧ s = 1 ∧ (x < 1 ∨ nI R < x))
def kd_O (x : Int32) (o : Int32) (n : Nat) : Prop := (o = 1 ∧ x = nI n ∧ n ≤ 3) ∨ (o = 0 ∧ n = 0 ∧ (x < 0 ∨ 3 < x))
def kd_W (x : Int32) (m : Nat) (r : Int32) : Prop := (∃ v, v ≤ 3 ∧ x = nI v ∧ r = nI ((v + m - 1) / m)) ∨ ((x < 0 ∨ 3 < x) ∧ r = -1)
def kd_Ro (x room r f : Int32) : Prop := ((x < 1 ∨ 20 < x) ∧ r = 0 ∧ f = room) ∨ (¬ x < 1 ∧ ¬ 20 < x ∧ r = 1 ∧ f = x)
def kd_F (x f S r : Int32) : Prop := (r = 0 ∧ (x < 0 ∨ 255 < x ∨ f < S)) ∨ (r = 1 ∧ ¬ x < 0 ∧ ¬ 255 < x ∧ ¬ f < S)
def kd_pc (x z : Int32) : Int32 := (((x &&& 3) * z + ((x >>> ((2 : Int32) &&& 31)) &&& 3)) + ((x >>> ((4 : Int32) &&& 31)) &&& 3)) + ((x >>> ((6 : Int32) &&& 31)) &&& 3)
theorem kd_rng (x : Int32) (n : Nat) (hn : n < 1000) : x < 0 ∨ (∃ j : Nat, j ≤ n ∧ x = nI j) ∨ nI n < x := by
  rcases pk_ix x (n := n + 1) (by omega) with h | h | ⟨j, hj, e⟩
  · exact Or.inl h
  · refine Or.inr (Or.inr ?_)
    rw [Int32.lt_iff_toInt_lt, nI_toInt (by omega)]
    rw [Int32.le_iff_toInt_le, nI_toInt (by omega)] at h
    omega
  · exact Or.inr (Or.inl ⟨j, by omega, e⟩)
theorem kd_ltI {a b : Nat} (h : nI a < nI b) (ha : a < 2 ^ 31) (hb : b < 2 ^ 31) : a < b := (nI_ltI ha hb).mp h
section
variable {fR fM : Int32} {fD fP : Int64} {fB : Int32} {a1 a2 a3 a4 : Nat → Int32} {a5 a6 a7 a8 a9 : Nat → Int64} {a10 a11 a12 a13 a14 : Nat → Int32}
theorem kd_init {post : St2 → Prop} {x : Int32} {R : Nat} (hP : ∀ P : Int32 → Prop, P (nI R) → ((1 ≤ x → ((x ≤ 20 → P x) ∧ (¬ x ≤ 20 → P 20))) ∧ (¬ 1 ≤ x → P 1)))
    (H : ∀ z, (∀ j, j < 4 → z j = nI 1) → post (nI R, 0, 0, 0, 0, z, (fun _ => 0), (fun _ => 0), (fun _ => 0), (fun _ => 0), (fun _ => 0), (fun _ => 0), (fun _ => 0), (fun _ => 0), (fun _ => 0), (fun _ => 0), (fun _ => 0), (fun _ => 0), (fun _ => 0))) :
    wpX_init post 14 276 (0, 0, 0, 0, 0) x := by
  unfold wpX_init
  refine ⟨by decide, by decide, by decide, by decide, by decide, by decide, by decide, by decide, by decide, by decide, by decide, by decide, by decide, by decide, by decide, by decide, by decide, by decide, by decide, by decide, by decide, by decide, by decide, by decide, by decide, by decide, by decide, by decide, ?_⟩
  refine hP (fun y => ∃ f, wX_init_136 post 14 276 14 276 y 0 0 0 0 f 0 (fun _ => 0) (fun _ => 0) (fun _ => 0) (fun _ => 0) (fun _ => 0) (fun _ => 0) (fun _ => 0) (fun _ => 0) (fun _ => 0) (fun _ => 0) (fun _ => 0) (fun _ => 0) (fun _ => 0) (fun _ => 0)) ?_
  refine pk_loop (fun n i z => wX_init_136 post 14 276 14 276 (nI R) 0 0 0 0 n (nI i) z (fun _ => 0) (fun _ => 0) (fun _ => 0) (fun _ => 0) (fun _ => 0) (fun _ => 0) (fun _ => 0) (fun _ => 0) (fun _ => 0) (fun _ => 0) (fun _ => 0) (fun _ => 0) (fun _ => 0)) (fun i z => ∀ j, j < i → z j = nI 1) 4 0 (fun _ => 0) (by omega) (fun j hj => absurd hj (by omega)) ?_ ?_
  · intro n z hz
    exact pk_le 4 4 (fun _ => H z hz) (fun z => absurd z (by omega))
  · intro n i z hi hz hw
    refine pk_le 4 i (fun z => absurd z (by omega)) (fun _ => ⟨pk_in i 4 hi, nm_r (e' := upd z i (nI 1)) ?_ (nm_r (nI_1 i) (hw _ ?_))⟩)
    · rw [nI_clamp (by omega)]
      rfl
    · intro j hj
      by_cases e : j = i
      · rw [e, pk_us]
      · rw [pk_un e]
        exact hz j (by omega)
theorem kd_wd1 {k j : Nat} : kd_wd k 1 j = 1 := by
  unfold kd_wd
  split
  · rfl
  · rfl
theorem kd_setW {post : Int32 → St2 → Prop} {R k : Nat} {x : Int32} (hR : R ≤ 20) (hk : k < 4) (h1 : ∀ j, j < 4 → a1 j = nI 1)
    (H : ∀ g s z, kd_G x R g s → (∀ j, j < 4 → z j = nI (kd_wd k s j)) → post g (nI R, fM, fD, fP, fB, z, a2, a3, a4, a5, a6, a7, a8, a9, a10, a11, a12, a13, a14)) : wpX_setWidth post (nI R, fM, fD, fP, fB, a1, a2, a3, a4, a5, a6, a7, a8, a9, a10, a11, a12, a13, a14) (nI k) x := by
  have h1' : ∀ j, j < 4 → a1 j = nI (kd_wd k 1 j) := fun j hj => by rw [kd_wd1]; exact h1 j hj
  unfold wpX_setWidth
  refine kd_kind hk (br_f (by decide) (br_c (fun h => H 0 1 a1 (Or.inr ⟨rfl, rfl, Or.inl h⟩) h1') (fun h => br_c (fun h2 => ?_) (fun h2 => H 0 1 a1 (Or.inr ⟨rfl, rfl, Or.inr (Int32.not_le.mp h2)⟩) h1'))))
  rcases kd_rng x 20 (by omega) with h3 | ⟨s, hs, e⟩ | h3
  · refine absurd ?_ h
    rw [Int32.lt_iff_toInt_lt] at h3 ⊢
    have e0 : (0 : Int32).toInt = 0 := by decide
    have e1 : (1 : Int32).toInt = 1 := by decide
    omega
  · subst e
    have s0 : 0 < s := by
      rcases Nat.eq_zero_or_pos s with z | z
      · rw [z] at h
        exact absurd (by decide) h
      · exact z
    have sR : s ≤ R := (nI_leI (by omega) (by omega)).mp h2
    refine ⟨pk_in k 4 hk, nm_r (e' := upd a1 k (nI s)) ?_ (H 1 s _ (Or.inl ⟨rfl, rfl, s0, sR⟩) (fun j hj => ?_))⟩
    · rw [nI_clamp (by omega), kd_b8 s (by omega)]
    · unfold kd_wd
      by_cases e : j = k
      · rw [e, pk_us, if_pos rfl]
      · rw [pk_un e, if_neg e]
        exact h1 j hj
  · refine absurd h2 ?_
    rw [Int32.lt_iff_toInt_lt, nI_toInt (by omega)] at h3
    rw [Int32.le_iff_toInt_le, nI_toInt (by omega)]
    omega
theorem kd_ord {post : Int32 → St2 → Prop} {k : Nat} {x : Int32} (hk : k < 4) (h2 : ∀ j, j < 4 → a2 j = nI 0)
    (H : ∀ o n z, kd_O x o n → (∀ j, j < 4 → z j = nI (if j = k then n else 0)) → post o (fR, fM, fD, fP, fB, a1, z, a3, a4, a5, a6, a7, a8, a9, a10, a11, a12, a13, a14)) : wpX_order post (fR, fM, fD, fP, fB, a1, a2, a3, a4, a5, a6, a7, a8, a9, a10, a11, a12, a13, a14) (nI k) x := by
  have h2' : ∀ j, j < 4 → a2 j = nI (if j = k then 0 else 0) := fun j hj => by
    rw [h2 j hj]
    split
    · rfl
    · rfl
  unfold wpX_order
  refine kd_kind hk (br_f (by decide) (br_c (fun h => H 0 0 a2 (Or.inr ⟨rfl, rfl, Or.inl h⟩) h2') (fun h => br_c (fun h3 => ?_) (fun h3 => H 0 0 a2 (Or.inr ⟨rfl, rfl, Or.inr (Int32.not_le.mp h3)⟩) h2'))))
  obtain ⟨n, hn, rfl⟩ := nI_of2 (n := 3) (M := 3) (by decide) h h3
  refine ⟨pk_in k 4 hk, nm_r (e' := upd a2 k (nI n)) ?_ (H 1 n _ (Or.inl ⟨rfl, rfl, hn⟩) (fun j hj => ?_))⟩
  · rw [nI_clamp (by omega), kd_b8 n (by omega)]
  · by_cases e : j = k
    · rw [e, pk_us, if_pos rfl]
    · rw [pk_un e, if_neg e]
      exact h2 j hj
theorem kd_lw {post : Int32 → St2 → Prop} {k s nn R : Nat} {x : Int32} (hs : 0 < s ∧ s ≤ R ∧ R ≤ 20) (hk : k < 4) (hn : nn ≤ 3) (h1 : ∀ j, j < 4 → a1 j = nI (kd_wd k s j)) (h2 : ∀ j, j < 4 → a2 j = nI (if j = k then nn else 0))
    (H : ∀ r fM' fD' fP' fB' s3 s4 s5 s6 s7 s8 s9 s10 s11 s12 s13 s14, kd_W x (R / s) r → post r (nI R, fM', fD', fP', fB', a1, a2, s3, s4, s5, s6, s7, s8, s9, s10, s11, s12, s13, s14)) : wpX_leastWith post (nI R, fM, fD, fP, fB, a1, a2, a3, a4, a5, a6, a7, a8, a9, a10, a11, a12, a13, a14) (nI k) x := by
  rcases kd_rng x 3 (by omega) with h | ⟨v, hv, rfl⟩ | h
  · unfold wpX_leastWith
    exact kd_kind hk (br_f (by decide) (br_t h (H _ _ _ _ _ _ _ _ _ _ _ _ _ _ _ _ _ (Or.inr ⟨Or.inl h, rfl⟩))))
  · exact kd_lwith hs hk hn hv h1 h2 (fun fM' fD' fP' fB' s3 s4 s5 s6 s7 s8 s9 s10 s11 s12 s13 s14 => H _ _ _ _ _ _ _ _ _ _ _ _ _ _ _ _ _ (Or.inl ⟨v, hv, rfl, rfl⟩))
  · unfold wpX_leastWith
    exact kd_kind hk (br_f (by decide) (br_c (fun g => H _ _ _ _ _ _ _ _ _ _ _ _ _ _ _ _ _ (Or.inr ⟨Or.inl g, rfl⟩)) (fun _ => br_f (Int32.not_le.mpr h) (H _ _ _ _ _ _ _ _ _ _ _ _ _ _ _ _ _ (Or.inr ⟨Or.inr h, rfl⟩)))))
theorem kd_roll {post : Int32 → St2 → Prop} {x : Int32} (h1 : ¬ x < 1 → ∀ j, j < 4 → a1 j ≤ x) (H : ∀ r f, kd_Ro x fR r f → post r (f, fM, fD, fP, fB, a1, a2, a3, a4, a5, a6, a7, a8, a9, a10, a11, a12, a13, a14)) : wpX_setRoll post (fR, fM, fD, fP, fB, a1, a2, a3, a4, a5, a6, a7, a8, a9, a10, a11, a12, a13, a14) x := by
  unfold wpX_setRoll
  refine br_c (fun h => H 0 fR (Or.inl ⟨Or.inl h, rfl, rfl⟩)) (fun h => br_c (fun h2 => ?_) (fun h2 => H 0 fR (Or.inl ⟨Or.inr (Int32.not_le.mp h2), rfl, rfl⟩)))
  refine pk_loop (σ := Unit) (fun n i _ => wX_setRoll_15 post x fR fM fD fP fB a1 a2 a3 a4 a5 a6 a7 a8 a9 a10 a11 a12 a13 a14 n (nI i)) (fun _ _ => True) 4 0 () (by omega) trivial ?_ ?_
  · intro n _ _
    exact pk_le 4 4 (fun _ => H 1 x (Or.inr ⟨h, Int32.not_lt.mpr h2, rfl, rfl⟩)) (fun z => absurd z (by omega))
  · intro n i _ hi _ hw
    refine pk_le 4 i (fun z => absurd z (by omega)) (fun _ => ⟨pk_in i 4 hi, br_t ?_ (nm_r (nI_1 i) (hw () trivial))⟩)
    rw [nI_clamp (by omega)]
    exact h1 h i hi
theorem kd_fits {post : Int32 → Prop} {x z : Int32} (e0 : (x &&& 3) * a1 0 = (x &&& 3) * z) (e1 : ((x >>> ((2 : Int32) &&& 31)) &&& 3) * a1 1 = (x >>> ((2 : Int32) &&& 31)) &&& 3) (e2 : ((x >>> ((4 : Int32) &&& 31)) &&& 3) * a1 2 = (x >>> ((4 : Int32) &&& 31)) &&& 3) (e3 : ((x >>> ((6 : Int32) &&& 31)) &&& 3) * a1 3 = (x >>> ((6 : Int32) &&& 31)) &&& 3)
    (H : ∀ r, kd_F x fR (kd_pc x z) r → post r) : wpX_fits post (fR, fM, fD, fP, fB, a1, a2, a3, a4, a5, a6, a7, a8, a9, a10, a11, a12, a13, a14) x := by
  unfold wpX_fits
  refine br_c (fun h => H 0 (Or.inl ⟨rfl, Or.inl h⟩)) (fun h => br_c (fun h2 => ?_) (fun h2 => H 0 (Or.inl ⟨rfl, Or.inr (Or.inl (Int32.not_le.mp h2))⟩)))
  have k0 : (0 : Int32) + ((x >>> ((2 * nI 0) &&& 31)) &&& 3) * a1 (nI 0).toNatClampNeg = (x &&& 3) * z := by
    rw [nI_clamp (by omega), show (2 : Int32) * nI 0 = 0 from by decide, sb_shr0, Int32.zero_add]
    exact e0
  have k1 : ((x >>> ((2 * nI 1) &&& 31)) &&& 3) * a1 (nI 1).toNatClampNeg = (x >>> ((2 : Int32) &&& 31)) &&& 3 := by
    rw [nI_clamp (by omega), show (2 : Int32) * nI 1 = 2 from by decide]
    exact e1
  have k2 : ((x >>> ((2 * nI 2) &&& 31)) &&& 3) * a1 (nI 2).toNatClampNeg = (x >>> ((4 : Int32) &&& 31)) &&& 3 := by
    rw [nI_clamp (by omega), show (2 : Int32) * nI 2 = 4 from by decide]
    exact e2
  have k3 : ((x >>> ((2 * nI 3) &&& 31)) &&& 3) * a1 (nI 3).toNatClampNeg = (x >>> ((6 : Int32) &&& 31)) &&& 3 := by
    rw [nI_clamp (by omega), show (2 : Int32) * nI 3 = 6 from by decide]
    exact e3
  refine ⟨4 + 1, pk_le 4 0 (fun z => absurd z (by omega)) (fun _ => ⟨pk_in 0 4 (by omega), nm_r k0 (nm_r (nI_1 0) (pk_le 4 1 (fun z => absurd z (by omega)) (fun _ => ⟨pk_in 1 4 (by omega), nm_r (congrArg (fun t => (x &&& 3) * z + t) k1) (nm_r (nI_1 1) (pk_le 4 2 (fun z => absurd z (by omega)) (fun _ => ⟨pk_in 2 4 (by omega), nm_r (congrArg (fun t => (x &&& 3) * z + ((x >>> ((2 : Int32) &&& 31)) &&& 3) + t) k2) (nm_r (nI_1 2) (pk_le 4 3 (fun z => absurd z (by omega)) (fun _ => ⟨pk_in 3 4 (by omega), nm_r (congrArg (fun t => (x &&& 3) * z + ((x >>> ((2 : Int32) &&& 31)) &&& 3) + ((x >>> ((4 : Int32) &&& 31)) &&& 3) + t) k3) (nm_r (nI_1 3) (pk_le 4 4 (fun _ => ?_) (fun z => absurd z (by omega))))⟩)))⟩)))⟩)))⟩)⟩
  exact br_c (fun g => H 0 (Or.inl ⟨rfl, Or.inr (Or.inr g)⟩)) (fun g => H 1 (Or.inr ⟨rfl, h, Int32.not_lt.mpr h2, g⟩))
end
end
section
def kd_z (x13 x1 x2 : Int32) : Int32 := if x13 = 0 then 1 else if x1 = 0 then x2 else 1
theorem kd_t263 {post : Int32 → St0 → Prop} {mc ms kc ks : Nat} {x1 x5 x6 x7 x8 x9 x10 x13 x14 x17 x18 x19 x20 z0 : Int32} (hp : post 1 ()) (h5 : x5 = x13) (h6 : x6 = x14) (h7 : x7 = x17) (h8 : x8 = x18) (h9 : x9 = x19) (hf : kd_F x1 x20 (kd_pc x1 z0) x10) :
    wL_lawOf_263 post mc ms x1 x5 x6 x7 x8 x9 x10 x13 x14 x17 x18 x19 x20 z0 (x1 &&& 3) kc ks := by
  unfold wL_lawOf_263
  refine nm_e (br_t h5 (br_t h6 (br_t h7 (br_t h8 (br_t h9 ?_)))))
  rcases hf with ⟨e, h⟩ | ⟨e, g1, g2, g3⟩
  · have A : wL_lawOf_344 post mc ms x10 kc ks := br_t e hp
    exact br_c (fun _ => A) (fun n1 => br_c (fun _ => A) (fun n2 => br_t ((h.resolve_left n1).resolve_left n2) A))
  · have A : wL_lawOf_345 post mc ms 1 x10 kc ks := br_t e hp
    exact br_f g1 (br_f g2 (br_f g3 A))
theorem kd_t244 {post : Int32 → St0 → Prop} {mc ms kc ks : Nat} {x1 x2 x5 x6 x7 x8 x9 x10 x13 x14 x17 x18 x19 z0 : Int32} (hp : post 1 ()) (h5 : x5 = x13) (h6 : x6 = x14) (h7 : x7 = x17) (h8 : x8 = x18) (h9 : x9 = x19) (hf : kd_F x1 z0 (kd_pc x1 (kd_z x13 x1 x2)) x10) :
    wL_lawOf_244 post mc ms x1 x2 x5 x6 x7 x8 x9 x10 x13 x14 x17 x18 x19 z0 kc ks := by
  unfold wL_lawOf_244
  refine br_c (fun e => ?_) (fun e => br_c (fun e2 => ?_) (fun e2 => ?_))
  · rw [show kd_z x13 x1 x2 = 1 from if_pos e] at hf
    exact kd_t263 hp h5 h6 h7 h8 h9 hf
  · rw [show kd_z x13 x1 x2 = x2 from (if_neg e).trans (if_pos e2)] at hf
    exact kd_t263 hp h5 h6 h7 h8 h9 hf
  · rw [show kd_z x13 x1 x2 = 1 from (if_neg e).trans (if_neg e2)] at hf
    exact kd_t263 hp h5 h6 h7 h8 h9 hf
theorem kd_t213 {post : Int32 → St0 → Prop} {mc ms kc ks : Nat} {x1 x2 x5 x6 x7 x8 x9 x10 x11 x13 x14 x17 z0 f : Int32} (hp : post 1 ()) (h5 : x5 = x13) (h6 : x6 = x14) (h7 : x7 = x17) (h8 : x8 = z0) (hr : kd_Ro x2 x11 x9 f) (hf : kd_F x1 f (kd_pc x1 (kd_z x13 x1 x2)) x10) :
    wL_lawOf_213 post mc ms x1 x2 x5 x6 x7 x8 x9 x10 x11 x13 x14 x17 z0 kc ks := by
  unfold wL_lawOf_213
  rcases hr with ⟨h, e1, e2⟩ | ⟨n1, n2, e1, e2⟩
  · subst e2
    have A : wL_lawOf_230 post mc ms x1 x2 x5 x6 x7 x8 x9 x10 f x13 x14 x17 z0 kc ks := by
      unfold wL_lawOf_230 wL_lawOf_231
      exact br_t rfl (kd_t244 hp h5 h6 h7 h8 e1 hf)
    exact br_c (fun _ => A) (fun n1 => br_t (h.resolve_left n1) A)
  · subst e2
    refine br_f n1 (br_f n2 ?_)
    unfold wL_lawOf_231
    exact br_f (by decide) (kd_t244 hp h5 h6 h7 h8 e1 hf)
/-- no kind: nothing is set, nothing is wanted -/
theorem kd_tA {post : Int32 → St0 → Prop} {mc ms kc ks R : Nat} {x1 x2 x3 x9 x10 f : Int32} (hp : post 1 ()) (hx : x1 < 0 ∨ 3 < x1) (hr : kd_Ro x2 (nI R) x9 f) (hf : kd_F x1 f (kd_pc x1 1) x10) :
    wL_lawOf_81 post mc ms x1 x2 x3 0 0 0 (-1) x9 x10 (nI R) kc ks := by
  have A : wL_lawOf_96 post mc ms x1 x2 x3 0 0 0 (-1) x9 x10 (nI R) kc ks := by
    unfold wL_lawOf_96 wL_lawOf_97
    refine br_t rfl ?_
    unfold wL_lawOf_119 wL_lawOf_120
    refine br_t rfl ?_
    unfold wL_lawOf_140 wL_lawOf_141
    refine br_t rfl ?_
    unfold wL_lawOf_153
    refine ⟨by decide, nm_e (br_t rfl ?_)⟩
    unfold wL_lawOf_183 wL_lawOf_184
    refine br_t rfl ?_
    unfold wL_lawOf_212
    exact kd_t213 hp rfl rfl rfl rfl hr hf
  unfold wL_lawOf_81
  exact br_c (fun _ => A) (fun n1 => br_t (hx.resolve_left n1) A)
theorem kd_dv {n m : Nat} (hn : n ≤ 3) (hm : 0 < m) (hm2 : m ≤ 20) : (nI n + nI m - 1) / nI m = nI ((n + m - 1) / m) := by
  rw [nI_add, show nI (n + m) - 1 = nI (n + m - 1) from pk_sub (b := 1) (by omega), pk_div (by omega) hm (by omega)]
theorem kd_d0 {m : Nat} (hm : 0 < m) : (0 + m - 1) / m = 0 := by
  rw [Nat.zero_add, Nat.div_eq_of_lt (by omega)]
theorem kd_t184 {post : Int32 → St0 → Prop} {mc ms kc ks m : Nat} {x1 x2 x5 x6 x7 x8 x9 x10 x11 x13 x14 z0 f : Int32} (hm : 0 < m) (hm2 : m ≤ 20) (hp : post 1 ()) (h5 : x5 = x13) (h6 : x6 = x14) (h7 : x7 = z0) (hw : kd_W x2 m x8) (hr : kd_Ro x2 x11 x9 f) (hf : kd_F x1 f (kd_pc x1 (kd_z x13 x1 x2)) x10) :
    wL_lawOf_184 post mc ms x1 x2 x5 x6 x7 x8 x9 x10 x11 1 x13 x14 (nI m) z0 kc ks := by
  unfold wL_lawOf_184
  refine br_f (by decide) ?_
  rcases hw with ⟨v, hv, e1, e2⟩ | ⟨h, e⟩
  · subst e1
    refine br_f (nI_pos (by omega)) (pk_lt 3 v (fun z => absurd z (by omega)) (fun _ => ⟨nI_ne0 hm (by omega), ?_⟩))
    exact kd_t213 hp h5 h6 h7 (e2.trans (kd_dv hv hm hm2).symm) hr hf
  · have A : wL_lawOf_212 post mc ms x1 x2 x5 x6 x7 x8 x9 x10 x11 x13 x14 z0 kc ks := by
      unfold wL_lawOf_212
      exact kd_t213 hp h5 h6 h7 e hr hf
    exact br_c (fun _ => A) (fun n1 => br_t (h.resolve_left n1) A)
theorem kd_t153 {post : Int32 → St0 → Prop} {mc ms kc ks R s n : Nat} {x1 x2 x3 x5 x6 x8 x9 x10 x13 x14 f : Int32} (hs : 0 < s ∧ s ≤ R ∧ R ≤ 20) (hp : post 1 ()) (h5 : x5 = x13) (h6 : x6 = x14) (ho : kd_O x3 x14 n) (hw : kd_W x2 (R / s) x8) (hr : kd_Ro x2 (nI R) x9 f) (hf : kd_F x1 f (kd_pc x1 (kd_z x13 x1 x2)) x10) :
    wL_lawOf_153 post mc ms x1 x2 x3 x5 x6 (nI ((n + R / s - 1) / (R / s))) x8 x9 x10 (nI R) 1 x13 x14 (nI s) kc ks := by
  obtain ⟨s0, sR, R20⟩ := hs
  have hm : 0 < R / s := Nat.div_pos sR s0
  have hm2 : R / s ≤ 20 := Nat.le_trans (Nat.div_le_self R s) R20
  unfold wL_lawOf_153
  refine ⟨nI_ne0 s0 (by omega), nm_r (pk_div (by omega) s0 (by omega)) ?_⟩
  rcases ho with ⟨e1, e2, e3⟩ | ⟨e1, e2, e3⟩
  · rw [e2]
    refine br_f (by rw [e1]; decide) (pk_le n 0 (fun z => ?_) (fun z => ⟨nI_ne0 hm (by omega), ?_⟩))
    · have n0 : n = 0 := by omega
      unfold wL_lawOf_183
      exact kd_t184 hm hm2 hp h5 h6 (by rw [n0, kd_d0 hm]; rfl) hw hr hf
    · exact kd_t184 hm hm2 hp h5 h6 (kd_dv e3 hm hm2).symm hw hr hf
  · refine br_t e1 ?_
    unfold wL_lawOf_183
    exact kd_t184 hm hm2 hp h5 h6 (by rw [e2, kd_d0 hm]; rfl) hw hr hf
theorem kd_t141 {post : Int32 → St0 → Prop} {mc ms kc ks R s n : Nat} {x1 x2 x3 x5 x6 x8 x9 x10 x13 x14 f : Int32} (hs : 0 < s ∧ s ≤ R ∧ R ≤ 20) (hp : post 1 ()) (h5 : x5 = x13) (h6 : x6 = x14) (hg : kd_G x2 R x13 s) (ho : kd_O x3 x14 n) (hw : kd_W x2 (R / s) x8) (hr : kd_Ro x2 (nI R) x9 f) (hf : kd_F x1 f (kd_pc x1 (kd_z x13 x1 x2)) x10) :
    wL_lawOf_141 post mc ms x1 x2 x3 x5 x6 (nI ((n + R / s - 1) / (R / s))) x8 x9 x10 (nI R) 1 x13 x14 kc ks := by
  unfold wL_lawOf_141
  have A : ∀ y, y = nI s → wL_lawOf_153 post mc ms x1 x2 x3 x5 x6 (nI ((n + R / s - 1) / (R / s))) x8 x9 x10 (nI R) 1 x13 x14 y kc ks := fun y hy => by
    rw [hy]
    exact kd_t153 hs hp h5 h6 ho hw hr hf
  rcases hg with ⟨e1, e2, _, _⟩ | ⟨e1, e2, _⟩
  · exact br_f (by rw [e1]; decide) (A _ e2)
  · exact br_t e1 (A _ (by rw [e2]; rfl))
theorem kd_t120 {post : Int32 → St0 → Prop} {mc ms kc ks R s n : Nat} {x1 x2 x3 x5 x6 x8 x9 x10 x13 f : Int32} (hs : 0 < s ∧ s ≤ R ∧ R ≤ 20) (hp : post 1 ()) (h5 : x5 = x13) (hg : kd_G x2 R x13 s) (ho : kd_O x3 x6 n) (hw : kd_W x2 (R / s) x8) (hr : kd_Ro x2 (nI R) x9 f) (hf : kd_F x1 f (kd_pc x1 (kd_z x13 x1 x2)) x10) :
    wL_lawOf_120 post mc ms x1 x2 x3 x5 x6 (nI ((n + R / s - 1) / (R / s))) x8 x9 x10 (nI R) 1 x13 kc ks := by
  unfold wL_lawOf_120
  refine br_f (by decide) ?_
  rcases id ho with ⟨e1, e2, e3⟩ | ⟨e1, e2, e3⟩
  · subst e1 e2
    exact br_f (nI_pos (by omega)) (pk_lt 3 n (fun z => absurd z (by omega)) (fun _ => kd_t141 hs hp h5 rfl hg ho hw hr hf))
  · subst e1
    have A : wL_lawOf_140 post mc ms x1 x2 x3 x5 0 (nI ((n + R / s - 1) / (R / s))) x8 x9 x10 (nI R) 1 x13 kc ks := by
      unfold wL_lawOf_140
      exact kd_t141 hs hp h5 rfl hg ho hw hr hf
    exact br_c (fun _ => A) (fun n1 => br_t (e3.resolve_left n1) A)
/-- a kind -/
theorem kd_tB {post : Int32 → St0 → Prop} {mc ms kc ks R s n k : Nat} {x2 x3 x5 x6 x8 x9 x10 f : Int32} (hk : k < 4) (hs : 0 < s ∧ s ≤ R ∧ R ≤ 20) (hp : post 1 ()) (hg : kd_G x2 R x5 s) (ho : kd_O x3 x6 n) (hw : kd_W x2 (R / s) x8) (hr : kd_Ro x2 (nI R) x9 f) (hf : kd_F (nI k) f (kd_pc (nI k) (kd_z x5 (nI k) x2)) x10) :
    wL_lawOf_81 post mc ms (nI k) x2 x3 x5 x6 (nI ((n + R / s - 1) / (R / s))) x8 x9 x10 (nI R) kc ks := by
  unfold wL_lawOf_81
  refine br_f (nI_pos (by omega)) (pk_lt 3 k (fun z => absurd z (by omega)) (fun _ => ?_))
  unfold wL_lawOf_97
  refine br_f (by decide) ?_
  rcases id hg with ⟨e1, e2, e3, e4⟩ | ⟨e1, e2, e3⟩
  · subst e1 e2
    exact pk_lt s 1 (fun z => absurd z (by omega)) (fun _ => pk_lt R s (fun z => absurd z (by omega)) (fun _ => kd_t120 hs hp rfl hg ho hw hr hf))
  · subst e1
    have A : wL_lawOf_119 post mc ms (nI k) x2 x3 0 x6 (nI ((n + R / s - 1) / (R / s))) x8 x9 x10 (nI R) 1 kc ks := by
      unfold wL_lawOf_119
      exact kd_t120 hs hp rfl hg ho hw hr hf
    exact br_c (fun _ => A) (fun n1 => br_t (e3.resolve_left n1) A)
theorem kd_dig : ∀ k, k < 4 → (((nI k >>> ((2 : Int32) &&& 31)) &&& 3) = 0 ∧ ((nI k >>> ((4 : Int32) &&& 31)) &&& 3) = 0 ∧ ((nI k >>> ((6 : Int32) &&& 31)) &&& 3) = 0) := by decide +kernel
section
variable {fR fM : Int32} {fD fP : Int64} {fB : Int32} {a1 a2 a3 a4 : Nat → Int32} {a5 a6 a7 a8 a9 : Nat → Int64} {a10 a11 a12 a13 a14 : Nat → Int32}
theorem kd_setW0 {post : Int32 → St2 → Prop} {x y : Int32} (hx : x < 0 ∨ 3 < x) (H : post 0 (fR, fM, fD, fP, fB, a1, a2, a3, a4, a5, a6, a7, a8, a9, a10, a11, a12, a13, a14)) : wpX_setWidth post (fR, fM, fD, fP, fB, a1, a2, a3, a4, a5, a6, a7, a8, a9, a10, a11, a12, a13, a14) x y := by
  unfold wpX_setWidth
  exact kd_nokind hx (br_t rfl H)
theorem kd_ord0 {post : Int32 → St2 → Prop} {x y : Int32} (hx : x < 0 ∨ 3 < x) (H : post 0 (fR, fM, fD, fP, fB, a1, a2, a3, a4, a5, a6, a7, a8, a9, a10, a11, a12, a13, a14)) : wpX_order post (fR, fM, fD, fP, fB, a1, a2, a3, a4, a5, a6, a7, a8, a9, a10, a11, a12, a13, a14) x y := by
  unfold wpX_order
  exact kd_nokind hx (br_t rfl H)
theorem kd_lw0 {post : Int32 → St2 → Prop} {x y : Int32} (hx : x < 0 ∨ 3 < x) (H : post (-1) (fR, fM, fD, fP, fB, a1, a2, a3, a4, a5, a6, a7, a8, a9, a10, a11, a12, a13, a14)) : wpX_leastWith post (fR, fM, fD, fP, fB, a1, a2, a3, a4, a5, a6, a7, a8, a9, a10, a11, a12, a13, a14) x y := by
  unfold wpX_leastWith
  exact kd_nokind hx (br_t rfl H)
end
theorem kd_law {post : Int32 → St0 → Prop} (hp : post 1 ()) (p0 p1 p2 p3 : Int32) : wpL_lawOf post 15 295 () p0 p1 p2 p3 := by
  obtain ⟨R, R0, R20, hP⟩ := kd_clamp p0
  unfold wpL_lawOf
  refine ⟨by decide, by decide, 14, 276, by decide, by decide, kd_init hP (fun z1 hz1 => ?_)⟩
  have hone : ¬ p2 < 1 → (nI 1 : Int32) ≤ p2 := fun h => Int32.not_lt.mp h
  have hK : (p1 < 0 ∨ 3 < p1) ∨ ∃ k : Nat, k ≤ 3 ∧ p1 = nI k := by
    rcases kd_rng p1 3 (by omega) with h | h | h
    · exact Or.inl (Or.inl h)
    · exact Or.inr h
    · exact Or.inl (Or.inr h)
  rcases hK with hx | ⟨k, hk, rfl⟩
  · have e : nI ((0 + R / 1 - 1) / (R / 1)) = 0 := by
      rw [Nat.div_one, kd_d0 R0]
      rfl
    have m1 : ∀ (y : Int32) j, j < 4 → y * z1 j = y * 1 := fun y j hj => congrArg (fun t => y * t) (hz1 j hj)
    refine kd_setW0 hx (kd_ord0 hx (kd_least (k := 0) (s := 1) (nn := 0) ⟨by omega, by omega, R20⟩ (by omega) (by omega) (fun j hj => ?_) (fun j _ => ?_) (fun fM' fD' fP' fB' s3 s4 s5 s6 s7 s8 s9 s10 s11 s12 s13 s14 => kd_lw0 hx (kd_roll (fun h j hj => ?_) (fun r f hr => kd_fits (z := 1) (m1 _ 0 (by omega)) ((m1 _ 1 (by omega)).trans (Int32.mul_one _)) ((m1 _ 2 (by omega)).trans (Int32.mul_one _)) ((m1 _ 3 (by omega)).trans (Int32.mul_one _)) (fun r' hf => ?_))))))
    · rw [kd_wd1]
      exact hz1 j hj
    · split
      · rfl
      · rfl
    · rw [hz1 j hj]
      exact hone h
    · rw [e]
      exact hP (fun y => wL_lawOf_81 post 15 295 p1 p2 p3 0 0 0 (-1) r r' y (1 + 14) (19 + 276)) (kd_tA hp hx hr hf)
  · have hk4 : k < 4 := by omega
    refine kd_setW R20 hk4 hz1 (fun g s z hg hz => ?_)
    have hs : 0 < s ∧ s ≤ R ∧ R ≤ 20 := by
      rcases hg with ⟨_, _, e3, e4⟩ | ⟨_, e2, _⟩
      · exact ⟨e3, e4, R20⟩
      · exact ⟨by omega, by omega, R20⟩
    refine kd_ord hk4 (fun j _ => rfl) (fun o n z2 ho hz2 => ?_)
    have hn : n ≤ 3 := by
      rcases ho with ⟨_, _, e3⟩ | ⟨_, e2, _⟩
      · exact e3
      · omega
    obtain ⟨d1, d2, d3⟩ := kd_dig k hk4
    refine kd_least hs hk4 hn hz hz2 (fun fM' fD' fP' fB' s3 s4 s5 s6 s7 s8 s9 s10 s11 s12 s13 s14 => kd_lw hs hk4 hn hz hz2 (fun w fM' fD' fP' fB' s3 s4 s5 s6 s7 s8 s9 s10 s11 s12 s13 s14 hw => kd_roll (fun h j hj => ?_) (fun r f hr => kd_fits (z := kd_z g (nI k) p2) ?_ (by rw [d1]; exact Int32.zero_mul) (by rw [d2]; exact Int32.zero_mul) (by rw [d3]; exact Int32.zero_mul) (fun r' hf => ?_))))
    · rw [hz j hj]
      unfold kd_wd
      by_cases e : j = k
      · rw [if_pos e]
        rcases hg with ⟨_, e2, _, _⟩ | ⟨_, e2, _⟩
        · rw [e2]
          exact Int32.le_refl _
        · rw [e2]
          exact hone h
      · rw [if_neg e]
        exact hone h
    · rcases Nat.eq_zero_or_pos k with k0 | k0
      · rw [k0, show nI 0 &&& 3 = 0 from by decide, Int32.zero_mul, Int32.zero_mul]
      · have e1 : z 0 = 1 := by
          rw [hz 0 (by omega)]
          exact congrArg nI (if_neg (by omega))
        have e2 : kd_z g (nI k) p2 = 1 := by
          unfold kd_z
          by_cases c : g = 0
          · exact if_pos c
          · rw [if_neg c]
            exact if_neg (nI_ne0 k0 (by omega))
        rw [e1, e2]
    · exact hP (fun y => wL_lawOf_81 post 15 295 (nI k) p2 p3 g o (nI ((n + R / s - 1) / (R / s))) w r r' y (1 + 14) (19 + 276)) (kd_tB hk4 hs hp hg ho hw hr hf)
theorem i_vc (xs : Nat → Int32) (L : Nat) (hL : L ≤ 4) : wpL_law (fun r => r = 1) L xs := by
  have hc : ∀ (post : Int32 → Prop) (i : Nat), i < 4 → (∀ r, post r) → wpL_cellAt post L xs () (nI i) := fun post i hi H =>
    pk_le L i (fun _ => H _) (fun z => ⟨pk_in i L z, H _⟩)
  unfold wpL_law
  exact hc _ 0 (by omega) (fun r1 => hc _ 1 (by omega) (fun r2 => hc _ 2 (by omega) (fun r3 => hc _ 3 (by omega) (fun r4 => ⟨15, 295, by decide, by decide, kd_law rfl r1 r2 r3 r4⟩))))
end
