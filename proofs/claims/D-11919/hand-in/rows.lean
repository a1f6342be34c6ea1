section
/-! the picture: sums, bits, tables -/
def zr_sum (f : Nat → Nat) : Nat → Nat
  | 0 => 0
  | n + 1 => zr_sum f n + f n
theorem zr_sum_le {f : Nat → Nat} {c : Nat} : ∀ n, (∀ i, i < n → f i ≤ c) → zr_sum f n ≤ n * c := by
  intro n
  induction n with
  | zero => intro _; exact Nat.zero_le _
  | succ n ih =>
    intro h
    have h1 := ih (fun i hi => h i (by omega))
    have h2 := h n (by omega)
    show zr_sum f n + f n ≤ (n + 1) * c
    rw [Nat.succ_mul]
    omega
theorem zr_sum_eq {f g : Nat → Nat} : ∀ n, (∀ i, i < n → f i = g i) → zr_sum f n = zr_sum g n := by
  intro n
  induction n with
  | zero => intro _; rfl
  | succ n ih =>
    intro h
    show zr_sum f n + f n = zr_sum g n + g n
    rw [ih (fun i hi => h i (by omega)), h n (by omega)]
/-- j is a subset of A -/
def zr_sub (j A : Nat) : Bool := j &&& A == j
theorem zr_bit : ∀ a, a < 256 → ∀ i, i < 8 → ((nI a >>> (nI i &&& 31)) &&& 1) = nI (a / 2 ^ i % 2) := by decide +kernel
theorem zr_b15 : ∀ i, i < 4 → (((15 : Int32) >>> (nI i &&& 31)) &&& 1) = 1 := by decide +kernel
theorem zr_m1 : ∀ A, A < 16 → ∀ k, k < 256 → ((nI k &&& (nI A ^^^ (-1))) = 0 ↔ (k < 16 ∧ zr_sub k A = true)) := by decide +kernel
theorem zr_s15 : ∀ k, k < 16 → zr_sub k 15 = true := by decide +kernel
theorem zr_or : ∀ k, k < 16 → ∀ r, r < 4 → (nI k ||| nI (2 ^ r)) = nI (k ||| 2 ^ r) ∧ k ||| 2 ^ r < 16 := by decide +kernel
theorem zr_sh : ∀ r, r < 4 → (1 : Int32) <<< (nI r &&& 31) = nI (2 ^ r) := by decide +kernel
/-- A without r -/
def zr_del (A r : Nat) : Nat := if A / 2 ^ r % 2 = 1 then A - 2 ^ r else A
theorem zr_clr : ∀ A, A < 16 → ∀ r, r < 4 → nI A &&& (nI (2 ^ r) ^^^ (-1)) = nI (zr_del A r) ∧ zr_del A r < 16 := by decide +kernel
theorem zr_orA : ∀ A, A < 16 → ∀ r, r < 4 → (nI A ||| nI (2 ^ r)) = nI (A ||| 2 ^ r) ∧ A ||| 2 ^ r < 16 := zr_or
theorem zr_bitA : ∀ A, A < 16 → ∀ r, r < 4 → ((nI A >>> (nI r &&& 31)) &&& 1) = nI (A / 2 ^ r % 2) := fun A hA r hr => zr_bit A (by omega) r (by omega)
/-- the cost of a mask at the beginning: NEVER where read 0 is on strand B -/
def zr_c0 (j : Nat) : Nat := if j % 2 = 1 then 1000000 else 0
theorem zr_c0r : ∀ k, k < 16 → ∀ r, r < 4 → r ≠ 0 → zr_c0 (k ||| 2 ^ r) = zr_c0 k := by decide +kernel
theorem zr_c00 : ∀ k, k < 16 → zr_c0 (k ||| 2 ^ 0) = 1000000 := by decide +kernel
theorem zr_splitD : ∀ A, A < 16 → ∀ r, r < 4 → ∀ j, j < 16 → (zr_sub j (A ||| 2 ^ r) = false ∨ zr_sub j A = true ∨ ((j &&& A) < 16 ∧ zr_sub (j &&& A) A = true ∧ (j &&& A) ||| 2 ^ r = j)) := by decide +kernel
theorem zr_split (A : Nat) (hA : A < 16) (r : Nat) (hr : r < 4) (j : Nat) (hj : j < 16) (h : zr_sub j (A ||| 2 ^ r) = true) : zr_sub j A = true ∨ ((j &&& A) < 16 ∧ zr_sub (j &&& A) A = true ∧ (j &&& A) ||| 2 ^ r = j) := by
  rcases zr_splitD A hA r hr j hj with z | z
  · rw [z] at h
    exact absurd h (by decide)
  · exact z
theorem zr_delD : ∀ A, A < 16 → ∀ r, r < 4 → ∀ j, j < 16 → (A / 2 ^ r % 2 ≠ 1 ∨ zr_sub j (zr_del A r) = false ∨ (zr_sub j A = true ∧ zr_sub (j ||| 2 ^ r) A = true ∧ zr_sub (j ||| 2 ^ r) (zr_del A r) = false)) := by decide +kernel
theorem zr_delS (A : Nat) (hA : A < 16) (r : Nat) (hr : r < 4) (h1 : A / 2 ^ r % 2 = 1) (j : Nat) (hj : j < 16) (h : zr_sub j (zr_del A r) = true) : zr_sub j A = true ∧ zr_sub (j ||| 2 ^ r) A = true ∧ zr_sub (j ||| 2 ^ r) (zr_del A r) = false := by
  rcases zr_delD A hA r hr j hj with z | z | z
  · exact absurd h1 z
  · rw [z] at h
    exact absurd h (by decide)
  · exact z
/-- what the reads say: trust T and value V by place -/
def zr_D (T V : Nat → Nat) (a1 a2 : Nat → Int32) : Prop := ∀ i, i < 32 → a1 i = nI (T i) ∧ a2 i = nI (V i) ∧ 1 ≤ T i ∧ T i ≤ 9 ∧ V i < 2
/-- weights of a site up to read i: strand A 0, A 1, B 0, B 1 -/
def zr_q0 (T V : Nat → Nat) (s m i : Nat) : Nat := zr_sum (fun r => (1 - m / 2 ^ r % 2) * (1 - V (r * 8 + s)) * T (r * 8 + s)) i
def zr_q1 (T V : Nat → Nat) (s m i : Nat) : Nat := zr_sum (fun r => (1 - m / 2 ^ r % 2) * V (r * 8 + s) * T (r * 8 + s)) i
def zr_q2 (T V : Nat → Nat) (s m i : Nat) : Nat := zr_sum (fun r => m / 2 ^ r % 2 * (1 - V (r * 8 + s)) * T (r * 8 + s)) i
def zr_q3 (T V : Nat → Nat) (s m i : Nat) : Nat := zr_sum (fun r => m / 2 ^ r % 2 * V (r * 8 + s) * T (r * 8 + s)) i
def zr_sc (T V : Nat → Nat) (f s m : Nat) : Nat := if f = 0 then min (zr_q0 T V s m 4) (zr_q1 T V s m 4) + min (zr_q2 T V s m 4) (zr_q3 T V s m 4) else min (zr_q0 T V s m 4 + zr_q3 T V s m 4) (zr_q1 T V s m 4 + zr_q2 T V s m 4)
theorem zr_mul9 {a b t : Nat} (ha : a ≤ 1) (hb : b ≤ 1) (ht : t ≤ 9) : a * b * t ≤ 9 := Nat.mul_le_mul (Nat.mul_le_mul ha hb) ht
theorem zr_qb {T V : Nat → Nat} {a1 a2 : Nat → Int32} {s : Nat} (m : Nat) (hD : zr_D T V a1 a2) (hs : s < 8) : zr_q0 T V s m 4 ≤ 36 ∧ zr_q1 T V s m 4 ≤ 36 ∧ zr_q2 T V s m 4 ≤ 36 ∧ zr_q3 T V s m 4 ≤ 36 := by
  have hT : ∀ r, r < 4 → T (r * 8 + s) ≤ 9 := fun r hr => (hD (r * 8 + s) (by omega)).2.2.2.1
  have hV : ∀ r, r < 4 → V (r * 8 + s) ≤ 1 := fun r hr => Nat.le_of_lt_succ (hD (r * 8 + s) (by omega)).2.2.2.2
  have hm : ∀ r, m / 2 ^ r % 2 ≤ 1 := fun r => Nat.le_of_lt_succ (Nat.mod_lt _ (by omega))
  exact ⟨zr_sum_le (c := 9) 4 (fun r hr => zr_mul9 (Nat.sub_le _ _) (Nat.sub_le _ _) (hT r hr)),
    zr_sum_le (c := 9) 4 (fun r hr => zr_mul9 (Nat.sub_le _ _) (hV r hr) (hT r hr)),
    zr_sum_le (c := 9) 4 (fun r hr => zr_mul9 (hm r) (Nat.sub_le _ _) (hT r hr)),
    zr_sum_le (c := 9) 4 (fun r hr => zr_mul9 (hm r) (hV r hr) (hT r hr))⟩
theorem zr_scb {T V : Nat → Nat} {a1 a2 : Nat → Int32} {s : Nat} (f m : Nat) (hD : zr_D T V a1 a2) (hs : s < 8) : zr_sc T V f s m ≤ 72 := by
  obtain ⟨h0, h1, h2, h3⟩ := zr_qb m hD hs
  unfold zr_sc
  split <;> omega
/-- a row of the table: cost, best, ways -/
def zr_ok (A : Nat) (tb : Nat → Nat × Nat × Nat) (a3 a4 a5 : Nat → Int32) : Prop := ∀ j, j < 16 → zr_sub j A = true → a3 j = nI (tb j).1 ∧ a4 j = nI (tb j).2.1 ∧ a5 j = nI (tb j).2.2 ∧ (tb j).1 ≤ 1000000 ∧ (tb j).2.1 < 16
/-- the table at the beginning -/
def zr_t0 (j : Nat) : Nat × Nat × Nat := (zr_c0 j, j, 1)
/-- the table behind s sites -/
def zr_t (T V : Nat → Nat) (f s j : Nat) : Nat × Nat × Nat := (if j % 2 = 1 then 1000000 else zr_sum (fun i => zr_sc T V f i j) s, j, 1)
/-- two rows joined -/
def zr_J (x y : Nat × Nat × Nat) : Nat × Nat × Nat := if y.1 < x.1 then y else if y.1 = x.1 then (x.1, min x.2.1 y.2.1, x.2.2 + y.2.2) else x
/-- the reads below i that aren't kept are ended -/
def zr_E (K : Nat) (tb : Nat → Nat × Nat × Nat) : Nat → Nat → Nat × Nat × Nat
  | 0 => tb
  | i + 1 => if K / 2 ^ i % 2 = 1 then zr_E K tb i else fun m => zr_J (zr_E K tb i m) (zr_E K tb i (m ||| 2 ^ i))
end
section
/-! weighRead, weigh, siteCost -/
theorem zr_wrd {post : St2 → Prop} {rd aw p0 p1 : Int32} {x0 x1 x2 x3 i b t v : Nat} {a1 a2 a3 a4 a5 : Nat → Int32} (e0 : p0 = nI i) (e1 : p1 = nI b) (hi : i < 64) (h1 : a1 i = nI t) (h2 : a2 i = nI v) (hv : v < 2) (hb : b < 2)
    (H : post (rd, aw, nI (x0 + (1 - b) * (1 - v) * t), nI (x1 + (1 - b) * v * t), nI (x2 + b * (1 - v) * t), nI (x3 + b * v * t), a1, a2, a3, a4, a5)) :
    wpX_weighRead post (rd, aw, nI x0, nI x1, nI x2, nI x3, a1, a2, a3, a4, a5) p0 p1 := by
  subst e0 e1
  unfold wpX_weighRead
  dsimp only
  rw [nI_clamp (show i < 2 ^ 31 by omega), h1, h2]
  refine ⟨pk_in i 64 hi, nm_e ?_⟩
  rcases (show b = 0 ∨ b = 1 by omega) with rfl | rfl <;> rcases (show v = 0 ∨ v = 1 by omega) with rfl | rfl
  · refine br_t rfl ⟨pk_in i 64 hi, br_t rfl (nm_r (nI_add x0 t) ?_)⟩
    simpa using H
  · refine br_t rfl ⟨pk_in i 64 hi, br_f (by decide) ?_⟩
    unfold wX_weighRead_33
    refine br_t rfl (nm_r (nI_add x1 t) ?_)
    simpa using H
  · refine br_f (by decide) ?_
    unfold wX_weighRead_33
    rw [nI_clamp (show i < 2 ^ 31 by omega), h2]
    refine br_f (by decide) ⟨pk_in i 64 hi, br_t rfl (nm_r (nI_add x2 t) ?_)⟩
    simpa using H
  · refine br_f (by decide) ?_
    unfold wX_weighRead_33
    rw [nI_clamp (show i < 2 ^ 31 by omega), h2]
    refine br_f (by decide) ⟨pk_in i 64 hi, br_f (by decide) (nm_r (nI_add x3 t) ?_)⟩
    simpa using H
theorem zr_at {i s : Nat} : nI i * 8 + nI s = nI (i * 8 + s) := by
  rw [show (8 : Int32) = nI 8 from rfl, pk_mul, nI_add]
theorem zr_weigh {post : St2 → Prop} {aw g0 g1 g2 g3 : Int32} {T V : Nat → Nat} {s m : Nat} {a1 a2 a3 a4 a5 : Nat → Int32} (hD : zr_D T V a1 a2) (hs : s < 8) (hm : m < 16)
    (H : post (nI 4, aw, nI (zr_q0 T V s m 4), nI (zr_q1 T V s m 4), nI (zr_q2 T V s m 4), nI (zr_q3 T V s m 4), a1, a2, a3, a4, a5)) :
    wpX_weigh post (nI 4, aw, g0, g1, g2, g3, a1, a2, a3, a4, a5) (nI s) (nI m) 15 :=
  pk_loop (σ := Unit) (fun n i _ => wX_weigh_23 post (nI s) (nI m) 15 n (nI i) (nI 4) aw (nI (zr_q0 T V s m i)) (nI (zr_q1 T V s m i)) (nI (zr_q2 T V s m i)) (nI (zr_q3 T V s m i)) a1 a2 a3 a4 a5) (fun _ _ => True) 4 0 () (by omega) trivial
    (fun n _ _ => pk_le 4 4 (fun _ => H) (fun z => absurd z (by omega)))
    (fun n i _ hi _ hw => pk_le 4 i (fun z => absurd z (by omega)) (fun _ => br_t (zr_b15 i hi) (zr_wrd (i := i * 8 + s) (b := m / 2 ^ i % 2) (t := T (i * 8 + s)) (v := V (i * 8 + s)) zr_at (zr_bitA m hm i hi) (by omega) (hD _ (by omega)).1 (hD _ (by omega)).2.1 (hD _ (by omega)).2.2.2.2 (Nat.mod_lt _ (by omega)) (nm_r (nI_1 i) (hw () trivial)))))
theorem zr_small {post : Int32 → Prop} {x y : Int32} (a b : Nat) (ea : x = nI a) (eb : y = nI b) (ha : a < 2 ^ 31) (hb : b < 2 ^ 31) (H : post (nI (min a b))) : wpX_smaller post () x y := by
  subst ea eb
  unfold wpX_smaller
  refine pk_le b a (fun z => ?_) (fun z => ?_) rfl rfl hb ha
  · rw [Nat.min_eq_right z] at H
    exact H
  · rw [Nat.min_eq_left (by omega)] at H
    exact H
theorem zr_site {post : Int32 → St2 → Prop} {aw g0 g1 g2 g3 : Int32} {T V : Nat → Nat} {s m f : Nat} {a1 a2 a3 a4 a5 : Nat → Int32} (hD : zr_D T V a1 a2) (hs : s < 8) (hm : m < 16) (hf : f < 2)
    (H : ∀ h0 h1 h2 h3 : Int32, post (nI (zr_sc T V f s m)) (nI 4, aw, h0, h1, h2, h3, a1, a2, a3, a4, a5)) :
    wpX_siteCost post (nI 4, aw, g0, g1, g2, g3, a1, a2, a3, a4, a5) (nI s) (nI m) 15 (nI f) := by
  obtain ⟨b0, b1, b2, b3⟩ := zr_qb m hD hs
  unfold wpX_siteCost
  refine zr_weigh hD hs hm ?_
  rcases (show f = 0 ∨ f = 1 by omega) with rfl | rfl
  · refine br_t rfl (zr_small _ _ rfl rfl (by omega) (by omega) (zr_small _ _ rfl rfl (by omega) (by omega) ?_))
    rw [nI_add]
    exact H _ _ _ _
  · refine br_f (by decide) (zr_small _ _ (nI_add _ _) (nI_add _ _) (by omega) (by omega) ?_)
    exact H _ _ _ _
end
section
/-! the same for the second printed copy (costOf) -/
theorem zr_wrd2 {post : St2 → Prop} {rd aw p0 p1 : Int32} {x0 x1 x2 x3 i b t v : Nat} {a1 a2 a3 a4 a5 : Nat → Int32} (e0 : p0 = nI i) (e1 : p1 = nI b) (hi : i < 64) (h1 : a1 i = nI t) (h2 : a2 i = nI v) (hv : v < 2) (hb : b < 2)
    (H : post (rd, aw, nI (x0 + (1 - b) * (1 - v) * t), nI (x1 + (1 - b) * v * t), nI (x2 + b * (1 - v) * t), nI (x3 + b * v * t), a1, a2, a3, a4, a5)) :
    wpX_weighRead_2 post (rd, aw, nI x0, nI x1, nI x2, nI x3, a1, a2, a3, a4, a5) p0 p1 := by
  subst e0 e1
  unfold wpX_weighRead_2
  dsimp only
  rw [nI_clamp (show i < 2 ^ 31 by omega), h1, h2]
  refine ⟨pk_in i 64 hi, nm_e ?_⟩
  rcases (show b = 0 ∨ b = 1 by omega) with rfl | rfl <;> rcases (show v = 0 ∨ v = 1 by omega) with rfl | rfl
  · refine br_t rfl ⟨pk_in i 64 hi, br_t rfl (nm_r (nI_add x0 t) ?_)⟩
    simpa using H
  · refine br_t rfl ⟨pk_in i 64 hi, br_f (by decide) ?_⟩
    unfold wX_weighRead_2_33
    refine br_t rfl (nm_r (nI_add x1 t) ?_)
    simpa using H
  · refine br_f (by decide) ?_
    unfold wX_weighRead_2_33
    rw [nI_clamp (show i < 2 ^ 31 by omega), h2]
    refine br_f (by decide) ⟨pk_in i 64 hi, br_t rfl (nm_r (nI_add x2 t) ?_)⟩
    simpa using H
  · refine br_f (by decide) ?_
    unfold wX_weighRead_2_33
    rw [nI_clamp (show i < 2 ^ 31 by omega), h2]
    refine br_f (by decide) ⟨pk_in i 64 hi, br_f (by decide) (nm_r (nI_add x3 t) ?_)⟩
    simpa using H
theorem zr_weigh2 {post : St2 → Prop} {aw g0 g1 g2 g3 : Int32} {T V : Nat → Nat} {s m : Nat} {a1 a2 a3 a4 a5 : Nat → Int32} (hD : zr_D T V a1 a2) (hs : s < 8) (hm : m < 16)
    (H : post (nI 4, aw, nI (zr_q0 T V s m 4), nI (zr_q1 T V s m 4), nI (zr_q2 T V s m 4), nI (zr_q3 T V s m 4), a1, a2, a3, a4, a5)) :
    wpX_weigh_2 post (nI 4, aw, g0, g1, g2, g3, a1, a2, a3, a4, a5) (nI s) (nI m) 15 :=
  pk_loop (σ := Unit) (fun n i _ => wX_weigh_2_23 post (nI s) (nI m) 15 n (nI i) (nI 4) aw (nI (zr_q0 T V s m i)) (nI (zr_q1 T V s m i)) (nI (zr_q2 T V s m i)) (nI (zr_q3 T V s m i)) a1 a2 a3 a4 a5) (fun _ _ => True) 4 0 () (by omega) trivial
    (fun n _ _ => pk_le 4 4 (fun _ => H) (fun z => absurd z (by omega)))
    (fun n i _ hi _ hw => pk_le 4 i (fun z => absurd z (by omega)) (fun _ => br_t (zr_b15 i hi) (zr_wrd2 (i := i * 8 + s) (b := m / 2 ^ i % 2) (t := T (i * 8 + s)) (v := V (i * 8 + s)) zr_at (zr_bitA m hm i hi) (by omega) (hD _ (by omega)).1 (hD _ (by omega)).2.1 (hD _ (by omega)).2.2.2.2 (Nat.mod_lt _ (by omega)) (nm_r (nI_1 i) (hw () trivial)))))
theorem zr_site2 {post : Int32 → St2 → Prop} {aw g0 g1 g2 g3 : Int32} {T V : Nat → Nat} {s m f : Nat} {a1 a2 a3 a4 a5 : Nat → Int32} (hD : zr_D T V a1 a2) (hs : s < 8) (hm : m < 16) (hf : f < 2)
    (H : ∀ h0 h1 h2 h3 : Int32, post (nI (zr_sc T V f s m)) (nI 4, aw, h0, h1, h2, h3, a1, a2, a3, a4, a5)) :
    wpX_siteCost_2 post (nI 4, aw, g0, g1, g2, g3, a1, a2, a3, a4, a5) (nI s) (nI m) 15 (nI f) := by
  obtain ⟨b0, b1, b2, b3⟩ := zr_qb m hD hs
  unfold wpX_siteCost_2
  refine zr_weigh2 hD hs hm ?_
  rcases (show f = 0 ∨ f = 1 by omega) with rfl | rfl
  · refine br_t rfl (zr_small _ _ rfl rfl (by omega) (by omega) (zr_small _ _ rfl rfl (by omega) (by omega) ?_))
    rw [nI_add]
    exact H _ _ _ _
  · refine br_f (by decide) (zr_small _ _ (nI_add _ _) (nI_add _ _) (by omega) (by omega) ?_)
    exact H _ _ _ _
end
section
/-! addSite -/
theorem zr_add {post : St2 → Prop} {g0 g1 g2 g3 : Int32} {T V : Nat → Nat} {t f : Nat} {c : Nat → Nat} {a1 a2 a3 a4 a5 : Nat → Int32} (hD : zr_D T V a1 a2) (ht : t < 8) (hf : f < 2) (hc : ∀ j, j < 16 → c j ≤ 1000000) (h3 : ∀ j, j < 16 → a3 j = nI (c j))
    (H : ∀ (h0 h1 h2 h3 : Int32) (b3 : Nat → Int32), (∀ j, j < 16 → b3 j = nI (if c j < 1000000 then c j + zr_sc T V f t j else c j)) → post (nI 4, nI 15, h0, h1, h2, h3, a1, a2, b3, a4, a5)) :
    wpX_addSite post (nI 4, nI 15, g0, g1, g2, g3, a1, a2, a3, a4, a5) (nI t) (nI f) := by
  refine pk_loop (σ := Int32 × Int32 × Int32 × Int32 × (Nat → Int32)) (fun n i s => wX_addSite_2 post (nI t) (nI f) n (nI i) (nI 4) (nI 15) s.1 s.2.1 s.2.2.1 s.2.2.2.1 a1 a2 s.2.2.2.2 a4 a5)
    (fun i s => ∀ j, j < 16 → s.2.2.2.2 j = nI (if j < i ∧ c j < 1000000 then c j + zr_sc T V f t j else c j)) 256 0 (g0, g1, g2, g3, a3) (by omega) ?_ ?_ ?_
  · intro j hj
    rw [if_neg (by omega)]
    exact h3 j hj
  · intro n s hI
    refine pk_le 256 256 (fun _ => H _ _ _ _ _ (fun j hj => ?_)) (fun z => absurd z (by omega))
    rw [hI j hj]
    by_cases z : c j < 1000000
    · rw [if_pos ⟨by omega, z⟩, if_pos z]
    · rw [if_neg (fun q => z q.2), if_neg z]
  · intro n i s hi hI hw
    have keep : (¬ (i < 16 ∧ c i < 1000000)) → wX_addSite_2 post (nI t) (nI f) n (nI (i + 1)) (nI 4) (nI 15) s.1 s.2.1 s.2.2.1 s.2.2.2.1 a1 a2 s.2.2.2.2 a4 a5 := by
      intro z
      refine hw s (fun j hj => ?_)
      rw [hI j hj]
      by_cases e : j = i
      · subst e
        rw [if_neg (by omega), if_neg (fun q => z ⟨hj, q.2⟩)]
      · by_cases y : c j < 1000000
        · by_cases u : j < i
          · rw [if_pos ⟨u, y⟩, if_pos ⟨by omega, y⟩]
          · rw [if_neg (fun q => u q.1), if_neg (fun q => absurd q.1 (by omega))]
        · rw [if_neg (fun q => y q.2), if_neg (fun q => y q.2)]
    refine pk_le 256 i (fun z => absurd z (by omega)) (fun _ => ?_)
    refine ek_if (zr_m1 15 (by omega) i hi) (fun z => ?_) (fun z => nm_r (nI_1 i) (keep (fun q => z ⟨q.1, zr_s15 i q.1⟩)))
    have hi16 := z.1
    have hcell : s.2.2.2.2 (nI i).toNatClampNeg = nI (c i) := by
      rw [nI_clamp (show i < 2 ^ 31 by omega), hI i hi16, if_neg (by omega)]
    refine ⟨pk_in i 256 hi, pk_le 1000000 (c i) (fun y => nm_r (nI_1 i) (keep (fun q => absurd q.2 (by omega)))) (fun y => ⟨pk_in i 256 hi, ?_⟩) rfl hcell (by omega) (by have := hc i hi16; omega)⟩
    rw [hcell, nI_clamp (show i < 2 ^ 31 by omega)]
    refine zr_site hD ht hi16 hf (fun h0 h1 h2 h3 => ⟨pk_in i 256 hi, nm_e (nm_r (nI_1 i) ?_)⟩)
    rw [nI_add]
    refine hw (h0, h1, h2, h3, upd s.2.2.2.2 i (nI (c i + zr_sc T V f t i))) (fun j hj => ?_)
    show upd s.2.2.2.2 i (nI (c i + zr_sc T V f t i)) j = _
    by_cases e : j = i
    · subst e
      rw [pk_us, if_pos ⟨by omega, y⟩]
    · rw [pk_un e, hI j hj]
      by_cases u : j < i
      · by_cases q : c j < 1000000
        · rw [if_pos ⟨u, q⟩, if_pos ⟨by omega, q⟩]
        · rw [if_neg (fun p => q p.2), if_neg (fun p => q p.2)]
      · rw [if_neg (fun p => u p.1), if_neg (fun p => absurd p.1 (by omega))]
end
section
/-! beginRead, join, endRead -/
theorem zr_c0b (j : Nat) : zr_c0 j ≤ 1000000 := by
  unfold zr_c0
  split <;> omega
def zr_fr (s : (Nat → Int32) × (Nat → Int32) × (Nat → Int32)) (j : Nat) : Prop := s.1 j = nI (zr_c0 j) ∧ s.2.1 j = nI j ∧ s.2.2 j = nI 1
theorem zr_frU {s : (Nat → Int32) × (Nat → Int32) × (Nat → Int32)} {z j : Nat} (h : j = z ∨ zr_fr s j) : zr_fr (upd s.1 z (nI (zr_c0 z)), upd s.2.1 z (nI z), upd s.2.2 z (nI 1)) j := by
  by_cases e : j = z
  · subst e
    exact ⟨pk_us, pk_us, pk_us⟩
  · have h' := h.resolve_left e
    exact ⟨(pk_un e).trans h'.1, (pk_un e).trans h'.2.1, (pk_un e).trans h'.2.2⟩
theorem zr_begin {post : St2 → Prop} {rd g0 g1 g2 g3 : Int32} {A r : Nat} {a1 a2 a3 a4 a5 : Nat → Int32} (hA : A < 16) (hr : r < 4) (h : zr_ok A zr_t0 a3 a4 a5)
    (H : ∀ b3 b4 b5 : Nat → Int32, zr_ok (A ||| 2 ^ r) zr_t0 b3 b4 b5 → post (rd, nI (A ||| 2 ^ r), g0, g1, g2, g3, a1, a2, b3, b4, b5)) :
    wpX_beginRead post (rd, nI A, g0, g1, g2, g3, a1, a2, a3, a4, a5) (nI r) := by
  unfold wpX_beginRead
  refine nm_r (zr_sh r hr) ?_
  refine pk_loop (σ := (Nat → Int32) × (Nat → Int32) × (Nat → Int32)) (fun n i s => wX_beginRead_6 post (nI r) (nI (2 ^ r)) rd (nI A) g0 g1 g2 g3 n (nI i) a1 a2 s.1 s.2.1 s.2.2)
    (fun i s => (∀ j, j < 16 → zr_sub j A = true → zr_fr s j) ∧ (∀ m, m < i → m < 16 → zr_sub m A = true → zr_fr s (m ||| 2 ^ r))) 256 0 (a3, a4, a5) (by omega) ?_ ?_ ?_
  · exact ⟨fun j hj hs => ⟨(h j hj hs).1, (h j hj hs).2.1, (h j hj hs).2.2.1⟩, fun m hm => absurd hm (by omega)⟩
  · intro n s hI
    refine pk_le 256 256 (fun _ => nm_r (zr_orA A hA r hr).1 (H _ _ _ (fun j hj hs => ?_))) (fun z => absurd z (by omega))
    have f : zr_fr s j := by
      rcases zr_split A hA r hr j hj hs with z | ⟨z1, z2, z3⟩
      · exact hI.1 j hj z
      · have q := hI.2 _ (by omega) z1 z2
        rw [z3] at q
        exact q
    exact ⟨f.1, f.2.1, f.2.2, zr_c0b j, hj⟩
  · intro n i s hi hI hw
    refine pk_le 256 i (fun z => absurd z (by omega)) (fun _ => ?_)
    refine ek_if (zr_m1 A hA i hi) (fun z => ?_) (fun z => nm_r (nI_1 i) (hw s ⟨hI.1, fun m hm h16 hs => ?_⟩))
    rotate_left
    · by_cases e : m = i
      · subst e
        exact absurd ⟨h16, hs⟩ z
      · exact hI.2 m (by omega) h16 hs
    obtain ⟨f1, f2, f3⟩ := hI.1 i z.1 z.2
    obtain ⟨o1, o2⟩ := zr_or i z.1 r hr
    have go : wX_beginRead_46 post (wX_beginRead_6 post (nI r) (nI (2 ^ r)) rd (nI A) g0 g1 g2 g3 n) (nI r) (nI (2 ^ r)) (nI i) (nI (zr_c0 (i ||| 2 ^ r))) (nI i ||| nI (2 ^ r)) rd (nI A) g0 g1 g2 g3 a1 a2 s.1 s.2.1 s.2.2 := by
      unfold wX_beginRead_46
      rw [o1, nI_clamp (show i < 2 ^ 31 by omega), nI_clamp (show i ||| 2 ^ r < 2 ^ 31 by omega), f2, f3, o1]
      refine ⟨pk_in (i ||| 2 ^ r) 256 (by omega), nm_e ⟨pk_in i 256 hi, pk_in (i ||| 2 ^ r) 256 (by omega), nm_e ⟨pk_in i 256 hi, pk_in (i ||| 2 ^ r) 256 (by omega), nm_e (nm_r (nI_1 i) ?_)⟩⟩⟩
      refine hw (upd s.1 (i ||| 2 ^ r) (nI (zr_c0 (i ||| 2 ^ r))), upd s.2.1 (i ||| 2 ^ r) (nI (i ||| 2 ^ r)), upd s.2.2 (i ||| 2 ^ r) (nI 1)) ⟨fun j hj hs => zr_frU (Or.inr (hI.1 j hj hs)), fun m hm h16 hs => ?_⟩
      by_cases e : m = i
      · subst e
        exact zr_frU (Or.inl rfl)
      · exact zr_frU (Or.inr (hI.2 m (by omega) h16 hs))
    refine pk_eq r 0 (fun z0 => ?_) (fun z0 => ⟨pk_in i 256 hi, ?_⟩)
    · subst z0
      rw [zr_c00 i z.1] at go
      exact go
    · rw [zr_c0r i z.1 r hr z0] at go
      rw [nI_clamp (show i < 2 ^ 31 by omega), f1]
      exact go
theorem zr_join {post : St2 → Prop} {rd aw g0 g1 g2 g3 : Int32} {m o : Nat} {x y : Nat × Nat × Nat} {a1 a2 a3 a4 a5 : Nat → Int32} (hm : m < 256) (ho : o < 256)
    (x1 : a3 m = nI x.1) (x2 : a4 m = nI x.2.1) (x3 : a5 m = nI x.2.2) (y1 : a3 o = nI y.1) (y2 : a4 o = nI y.2.1) (y3 : a5 o = nI y.2.2)
    (bx : x.1 ≤ 1000000) (bz : y.1 ≤ 1000000) (cx : x.2.1 < 16) (cz : y.2.1 < 16)
    (H : ∀ b3 b4 b5 : Nat → Int32, (∀ j, j ≠ m → b3 j = a3 j ∧ b4 j = a4 j ∧ b5 j = a5 j) → b3 m = nI (zr_J x y).1 → b4 m = nI (zr_J x y).2.1 → b5 m = nI (zr_J x y).2.2 → post (rd, aw, g0, g1, g2, g3, a1, a2, b3, b4, b5)) :
    wpX_join post (rd, aw, g0, g1, g2, g3, a1, a2, a3, a4, a5) (nI m) (nI o) := by
  have cm := nI_clamp (show m < 2 ^ 31 by omega)
  have co := nI_clamp (show o < 2 ^ 31 by omega)
  have im : vp_in (nI m) 256 := pk_in m 256 hm
  have io : vp_in (nI o) 256 := pk_in o 256 ho
  unfold wpX_join
  dsimp only
  rw [cm, co, x1, y1, x2, y2, y3]
  refine ⟨io, im, pk_le x.1 y.1 (fun z => ⟨io, im, pk_eq y.1 x.1 (fun e => ⟨io, im, pk_le x.2.1 y.2.1 (fun q => ?_) (fun q => ⟨io, im, nm_e ?_⟩)⟩) (fun e => ?_)⟩) (fun z => ⟨io, im, nm_e ⟨io, im, nm_e ⟨io, im, nm_e ?_⟩⟩⟩)⟩
  · have eJ : zr_J x y = (x.1, min x.2.1 y.2.1, x.2.2 + y.2.2) := by
      unfold zr_J
      rw [if_neg (by omega), if_pos e]
    rw [eJ, Nat.min_eq_left q] at H
    unfold wX_join_96
    rw [cm, co, x3, y3, nI_add]
    exact ⟨im, io, im, nm_e (H _ _ _ (fun j hj => ⟨rfl, rfl, pk_un hj⟩) x1 x2 pk_us)⟩
  · have eJ : zr_J x y = (x.1, min x.2.1 y.2.1, x.2.2 + y.2.2) := by
      unfold zr_J
      rw [if_neg (by omega), if_pos e]
    rw [eJ, Nat.min_eq_right (by omega)] at H
    unfold wX_join_96
    rw [cm, co, x3, y3, nI_add]
    exact ⟨im, io, im, nm_e (H _ _ _ (fun j hj => ⟨rfl, pk_un hj, pk_un hj⟩) x1 pk_us pk_us)⟩
  · have eJ : zr_J x y = x := by
      unfold zr_J
      rw [if_neg (by omega), if_neg e]
    rw [eJ] at H
    exact H _ _ _ (fun j hj => ⟨rfl, rfl, rfl⟩) x1 x2 x3
  · have eJ : zr_J x y = y := by
      unfold zr_J
      rw [if_pos z]
    rw [eJ] at H
    exact H _ _ _ (fun j hj => ⟨pk_un hj, pk_un hj, pk_un hj⟩) pk_us pk_us pk_us
theorem zr_J1 (x y : Nat × Nat × Nat) : (zr_J x y).1 = min x.1 y.1 := by
  unfold zr_J
  split
  · omega
  · split
    · dsimp only
      omega
    · omega
theorem zr_J2 {x y : Nat × Nat × Nat} {n : Nat} (hx : x.2.1 < n) (hy : y.2.1 < n) : (zr_J x y).2.1 < n := by
  unfold zr_J
  split
  · exact hy
  · split
    · dsimp only
      omega
    · exact hx
theorem zr_end {post : St2 → Prop} {rd g0 g1 g2 g3 : Int32} {A r : Nat} {tb : Nat → Nat × Nat × Nat} {a1 a2 a3 a4 a5 : Nat → Int32} (hA : A < 16) (hr : r < 4) (hAr : A / 2 ^ r % 2 = 1) (h : zr_ok A tb a3 a4 a5)
    (H : ∀ b3 b4 b5 : Nat → Int32, zr_ok (zr_del A r) (fun m => zr_J (tb m) (tb (m ||| 2 ^ r))) b3 b4 b5 → post (rd, nI (zr_del A r), g0, g1, g2, g3, a1, a2, b3, b4, b5)) :
    wpX_endRead post (rd, nI A, g0, g1, g2, g3, a1, a2, a3, a4, a5) (nI r) := by
  obtain ⟨hc, hd⟩ := zr_clr A hA r hr
  unfold wpX_endRead
  refine nm_r (zr_sh r hr) (nm_r hc ?_)
  refine pk_loop (σ := (Nat → Int32) × (Nat → Int32) × (Nat → Int32)) (fun n i s => wX_endRead_18 post (nI (2 ^ r)) n (nI i) rd (nI (zr_del A r)) g0 g1 g2 g3 a1 a2 s.1 s.2.1 s.2.2)
    (fun i s => (∀ j, j < 16 → zr_sub j A = true → ¬ (j < i ∧ zr_sub j (zr_del A r) = true) → s.1 j = nI (tb j).1 ∧ s.2.1 j = nI (tb j).2.1 ∧ s.2.2 j = nI (tb j).2.2) ∧ (∀ j, j < 16 → zr_sub j (zr_del A r) = true → j < i → s.1 j = nI (zr_J (tb j) (tb (j ||| 2 ^ r))).1 ∧ s.2.1 j = nI (zr_J (tb j) (tb (j ||| 2 ^ r))).2.1 ∧ s.2.2 j = nI (zr_J (tb j) (tb (j ||| 2 ^ r))).2.2)) 256 0 (a3, a4, a5) (by omega) ?_ ?_ ?_
  · exact ⟨fun j hj hs _ => ⟨(h j hj hs).1, (h j hj hs).2.1, (h j hj hs).2.2.1⟩, fun j _ _ hz => absurd hz (by omega)⟩
  · intro n s hI
    refine pk_le 256 256 (fun _ => H _ _ _ (fun j hj hs => ?_)) (fun z => absurd z (by omega))
    obtain ⟨s1, s2, _⟩ := zr_delS A hA r hr hAr j hj hs
    obtain ⟨k1, k2, k3⟩ := hI.2 j hj hs (by omega)
    have b1 := (h j hj s1).2.2.2
    have b2 := (h (j ||| 2 ^ r) (zr_or j hj r hr).2 s2).2.2.2
    refine ⟨k1, k2, k3, ?_, zr_J2 b1.2 b2.2⟩
    show (zr_J (tb j) (tb (j ||| 2 ^ r))).1 ≤ 1000000
    rw [zr_J1]
    have := b1.1
    omega
  · intro n i s hi hI hw
    refine pk_le 256 i (fun z => absurd z (by omega)) (fun _ => ?_)
    refine ek_if (zr_m1 _ hd i hi) (fun z => ?_) (fun z => nm_r (nI_1 i) (hw s ⟨fun j hj hs hn => hI.1 j hj hs (fun q => hn ⟨by omega, q.2⟩), fun j hj hs hl => hI.2 j hj hs ?_⟩))
    rotate_left
    · by_cases e : j = i
      · subst e
        exact absurd ⟨hj, hs⟩ z
      · omega
    obtain ⟨s1, s2, s3⟩ := zr_delS A hA r hr hAr i z.1 z.2
    obtain ⟨o1, o2⟩ := zr_or i z.1 r hr
    obtain ⟨k1, k2, k3⟩ := hI.1 i z.1 s1 (fun q => absurd q.1 (by omega))
    obtain ⟨l1, l2, l3⟩ := hI.1 _ o2 s2 (fun q => absurd q.2 (by rw [s3]; decide))
    have b1 := (h i z.1 s1).2.2.2
    have b2 := (h _ o2 s2).2.2.2
    rw [o1]
    refine zr_join (x := tb i) (y := tb (i ||| 2 ^ r)) hi (by omega) k1 k2 k3 l1 l2 l3 b1.1 b2.1 b1.2 b2.2 (fun b3 b4 b5 hk e1 e2 e3 => nm_r (nI_1 i) (hw (b3, b4, b5) ⟨fun j hj hs hn => ?_, fun j hj hs hl => ?_⟩))
    · have ne : j ≠ i := by
        intro e
        subst e
        exact hn ⟨by omega, z.2⟩
      obtain ⟨p1, p2, p3⟩ := hI.1 j hj hs (fun q => hn ⟨by omega, q.2⟩)
      exact ⟨(hk j ne).1.trans p1, (hk j ne).2.1.trans p2, (hk j ne).2.2.trans p3⟩
    · by_cases e : j = i
      · subst e
        exact ⟨e1, e2, e3⟩
      · obtain ⟨p1, p2, p3⟩ := hI.2 j hj hs (by omega)
        exact ⟨(hk j e).1.trans p1, (hk j e).2.1.trans p2, (hk j e).2.2.trans p3⟩
end
section
/-! firstSite, lastSite, solve -/
theorem zr_first {post : Int32 → Prop} {rd aw g0 g1 g2 g3 : Int32} {T V : Nat → Nat} {r : Nat} {a1 a2 a3 a4 a5 : Nat → Int32} (hD : zr_D T V a1 a2) (hr : r < 4) (H : post 0) :
    wpX_firstSite post (rd, aw, g0, g1, g2, g3, a1, a2, a3, a4, a5) (nI r) := by
  have e : nI r * 8 + 0 = nI (r * 8 + 0) := zr_at (s := 0)
  have hd := hD (r * 8 + 0) (by omega)
  refine ⟨0 + 1, br_f (by decide) ⟨?_, br_f ?_ H⟩⟩
  · rw [e]
    exact pk_in (r * 8 + 0) 64 (by omega)
  · rw [e, nI_clamp (by omega), hd.1]
    exact nI_ne0 (by omega) (by omega)
theorem zr_last {post : Int32 → Prop} {rd aw g0 g1 g2 g3 : Int32} {T V : Nat → Nat} {r : Nat} {a1 a2 a3 a4 a5 : Nat → Int32} (hD : zr_D T V a1 a2) (hr : r < 4) (H : post 7) :
    wpX_lastSite post (rd, aw, g0, g1, g2, g3, a1, a2, a3, a4, a5) (nI r) := by
  have e : nI r * 8 + 7 = nI (r * 8 + 7) := zr_at (s := 7)
  have hd := hD (r * 8 + 7) (by omega)
  refine ⟨0 + 1, br_f (by decide) ⟨?_, br_f ?_ H⟩⟩
  · rw [e]
    exact pk_in (r * 8 + 7) 64 (by omega)
  · rw [e, nI_clamp (by omega), hd.1]
    exact nI_ne0 (by omega) (by omega)
theorem zr_k1 : ∀ K, K < 16 → ∀ i, i < 4 → K / 2 ^ i % 2 = 1 → K % 2 ^ i ||| 2 ^ i = K % 2 ^ (i + 1) := by decide +kernel
theorem zr_k0 : ∀ K, K < 16 → ∀ i, i < 4 → K / 2 ^ i % 2 ≠ 1 → K % 2 ^ (i + 1) = K % 2 ^ i := by decide +kernel
theorem zr_s28 {post : St2 → Prop} {g0 g1 g2 g3 : Int32} {T V : Nat → Nat} {K f : Nat} {a1 a2 a3 a4 a5 : Nat → Int32} (hD : zr_D T V a1 a2) (hK : K < 16) (h : zr_ok (K % 2 ^ 0) zr_t0 a3 a4 a5)
    (H : ∀ b3 b4 b5 : Nat → Int32, zr_ok K zr_t0 b3 b4 b5 → ∃ n, wX_solve_72 post (nI K) (nI f) n 0 (nI 4) (nI K) g0 g1 g2 g3 a1 a2 b3 b4 b5) :
    ∃ n, wX_solve_28 post (nI K) (nI f) n (nI 0) (nI 4) (nI (K % 2 ^ 0)) g0 g1 g2 g3 a1 a2 a3 a4 a5 := by
  refine pk_loop (σ := (Nat → Int32) × (Nat → Int32) × (Nat → Int32)) (fun n i s => wX_solve_28 post (nI K) (nI f) n (nI i) (nI 4) (nI (K % 2 ^ i)) g0 g1 g2 g3 a1 a2 s.1 s.2.1 s.2.2)
    (fun i s => zr_ok (K % 2 ^ i) zr_t0 s.1 s.2.1 s.2.2) 4 0 (a3, a4, a5) (by omega) h ?_ ?_
  · intro n s hI
    have e : K % 2 ^ 4 = K := Nat.mod_eq_of_lt hK
    show wX_solve_28 post (nI K) (nI f) (n + 1) (nI 4) (nI 4) (nI (K % 2 ^ 4)) g0 g1 g2 g3 a1 a2 s.1 s.2.1 s.2.2
    rw [e] at hI ⊢
    exact pk_le 4 4 (fun _ => H _ _ _ hI) (fun z => absurd z (by omega))
  · intro n i s hi hI hw
    have hw' : ∀ b3 b4 b5 : Nat → Int32, zr_ok (K % 2 ^ (i + 1)) zr_t0 b3 b4 b5 → wX_solve_28 post (nI K) (nI f) n (nI (i + 1)) (nI 4) (nI (K % 2 ^ (i + 1))) g0 g1 g2 g3 a1 a2 b3 b4 b5 := fun b3 b4 b5 hb => hw (b3, b4, b5) hb
    have hA : K % 2 ^ i < 16 := Nat.lt_of_le_of_lt (Nat.mod_le _ _) hK
    refine pk_le 4 i (fun z => absurd z (by omega)) (fun _ => zr_first hD hi ?_)
    refine pk_eq (K / 2 ^ i % 2) 1 (fun z => ?_) (fun z => br_f (by decide) (nm_r (nI_1 i) ?_)) (zr_bitA K hK i hi) rfl (by omega) (by omega)
    · unfold wX_solve_59
      rw [← zr_k1 K hK i hi z] at hw'
      exact zr_begin hA hi hI (fun b3 b4 b5 hb => nm_r (nI_1 i) (hw' b3 b4 b5 hb))
    · rw [zr_k0 K hK i hi z] at hw'
      exact hw' _ _ _ hI
theorem zr_a1 : ∀ K, K < 16 → ∀ i, i < 4 → (K ||| (2 ^ i - 1)) < 16 ∧ (K ||| (2 ^ i - 1)) ||| 2 ^ i = K ||| (2 ^ (i + 1) - 1) ∧ ((K ||| (2 ^ i - 1)) / 2 ^ i % 2 ≠ 0 → K ||| (2 ^ (i + 1) - 1) = K ||| (2 ^ i - 1)) := by decide +kernel
theorem zr_a14 : ∀ K, K < 16 → K ||| (2 ^ 4 - 1) = 15 := by decide +kernel
theorem zr_s81a {post : St2 → Prop} {J : Int32 → Int32 → Int32 → Int32 → Int32 → Int32 → Int32 → (Nat → Int32) → (Nat → Int32) → (Nat → Int32) → (Nat → Int32) → (Nat → Int32) → Prop} {g0 g1 g2 g3 : Int32} {T V : Nat → Nat} {K f : Nat} {a1 a2 a3 a4 a5 : Nat → Int32} (hD : zr_D T V a1 a2) (hK : K < 16) (h : zr_ok K zr_t0 a3 a4 a5)
    (H : ∀ (n : Nat) (b3 b4 b5 : Nat → Int32), zr_ok 15 zr_t0 b3 b4 b5 → wX_solve_81 post J (nI K) (nI f) (nI 0) (n + 1) (nI 4) (nI 4) (nI 15) g0 g1 g2 g3 a1 a2 b3 b4 b5) :
    ∃ n, wX_solve_81 post J (nI K) (nI f) (nI 0) n (nI 0) (nI 4) (nI K) g0 g1 g2 g3 a1 a2 a3 a4 a5 := by
  have e0 : K ||| (2 ^ 0 - 1) = K := Nat.or_zero K
  have main : ∃ n, wX_solve_81 post J (nI K) (nI f) (nI 0) n (nI 0) (nI 4) (nI (K ||| (2 ^ 0 - 1))) g0 g1 g2 g3 a1 a2 a3 a4 a5 := by
    refine pk_loop (σ := (Nat → Int32) × (Nat → Int32) × (Nat → Int32)) (fun n i s => wX_solve_81 post J (nI K) (nI f) (nI 0) n (nI i) (nI 4) (nI (K ||| (2 ^ i - 1))) g0 g1 g2 g3 a1 a2 s.1 s.2.1 s.2.2)
      (fun i s => zr_ok (K ||| (2 ^ i - 1)) zr_t0 s.1 s.2.1 s.2.2) 4 0 (a3, a4, a5) (by omega) ?_ ?_ ?_
    · show zr_ok (K ||| (2 ^ 0 - 1)) zr_t0 a3 a4 a5
      rw [e0]
      exact h
    · intro n s hI
      show wX_solve_81 post J (nI K) (nI f) (nI 0) (n + 1) (nI 4) (nI 4) (nI (K ||| (2 ^ 4 - 1))) g0 g1 g2 g3 a1 a2 s.1 s.2.1 s.2.2
      rw [zr_a14 K hK] at hI ⊢
      exact H n _ _ _ hI
    · intro n i s hi hI hw
      have hw' : ∀ b3 b4 b5 : Nat → Int32, zr_ok (K ||| (2 ^ (i + 1) - 1)) zr_t0 b3 b4 b5 → wX_solve_81 post J (nI K) (nI f) (nI 0) n (nI (i + 1)) (nI 4) (nI (K ||| (2 ^ (i + 1) - 1))) g0 g1 g2 g3 a1 a2 b3 b4 b5 := fun b3 b4 b5 hb => hw (b3, b4, b5) hb
      obtain ⟨q1, q2, q3⟩ := zr_a1 K hK i hi
      refine pk_le 4 i (fun z => absurd z (by omega)) (fun _ => zr_first hD hi (br_t rfl ?_))
      refine pk_eq ((K ||| (2 ^ i - 1)) / 2 ^ i % 2) 0 (fun z => ?_) (fun z => nm_r (nI_1 i) ?_) (zr_bitA _ q1 i hi) rfl (by omega) (by omega)
      · rw [← q2] at hw'
        exact zr_begin q1 hi hI (fun b3 b4 b5 hb => nm_r (nI_1 i) (hw' b3 b4 b5 hb))
      · rw [q3 z] at hw'
        exact hw' _ _ _ hI
  rw [e0] at main
  exact main
theorem zr_s81b {post : St2 → Prop} {J : Int32 → Int32 → Int32 → Int32 → Int32 → Int32 → Int32 → (Nat → Int32) → (Nat → Int32) → (Nat → Int32) → (Nat → Int32) → (Nat → Int32) → Prop} {g0 g1 g2 g3 : Int32} {T V : Nat → Nat} {K f s : Nat} {a1 a2 a3 a4 a5 : Nat → Int32} (hD : zr_D T V a1 a2) (hs0 : 0 < s) (hs : s < 8)
    (H : ∀ n : Nat, wX_solve_81 post J (nI K) (nI f) (nI s) (n + 1) (nI 4) (nI 4) (nI 15) g0 g1 g2 g3 a1 a2 a3 a4 a5) :
    ∃ n, wX_solve_81 post J (nI K) (nI f) (nI s) n (nI 0) (nI 4) (nI 15) g0 g1 g2 g3 a1 a2 a3 a4 a5 :=
  pk_loop (σ := Unit) (fun n i _ => wX_solve_81 post J (nI K) (nI f) (nI s) n (nI i) (nI 4) (nI 15) g0 g1 g2 g3 a1 a2 a3 a4 a5) (fun _ _ => True) 4 0 () (by omega) trivial
    (fun n _ _ => H n)
    (fun n i _ hi _ hw => pk_le 4 i (fun z => absurd z (by omega)) (fun _ => zr_first hD hi (pk_eq 0 s (fun z => absurd z (by omega)) (fun _ => nm_r (nI_1 i) (hw () trivial)))))
theorem zr_tadd {T V : Nat → Nat} {f s : Nat} {a1 a2 b3 a4 a5 : Nat → Int32} (hD : zr_D T V a1 a2) (hs : s < 8) (h4 : ∀ j, j < 16 → a4 j = nI j ∧ a5 j = nI 1)
    (h : ∀ j, j < 16 → b3 j = nI (if (zr_t T V f s j).1 < 1000000 then (zr_t T V f s j).1 + zr_sc T V f s j else (zr_t T V f s j).1)) : zr_ok 15 (zr_t T V f (s + 1)) b3 a4 a5 := by
  intro j hj _
  have hb : ∀ n, n ≤ 8 → zr_sum (fun i => zr_sc T V f i j) n ≤ n * 72 := fun n hn => zr_sum_le n (fun i hi => zr_scb f j hD (by omega))
  have h1 := hb s (by omega)
  have h2 := hb (s + 1) (by omega)
  have e : (if (zr_t T V f s j).1 < 1000000 then (zr_t T V f s j).1 + zr_sc T V f s j else (zr_t T V f s j).1) = (zr_t T V f (s + 1) j).1 := by
    unfold zr_t
    dsimp only
    by_cases o : j % 2 = 1
    · rw [if_pos o, if_pos o, if_neg (by omega)]
    · rw [if_neg o, if_neg o, if_pos (by omega)]
      rfl
  refine ⟨(h j hj).trans (congrArg nI e), (h4 j hj).1, (h4 j hj).2, ?_, hj⟩
  unfold zr_t
  dsimp only
  by_cases o : j % 2 = 1
  · rw [if_pos o]
    exact Nat.le_refl _
  · rw [if_neg o]
    omega
theorem zr_x81b {post : St2 → Prop} {J : Int32 → Int32 → Int32 → Int32 → Int32 → Int32 → Int32 → (Nat → Int32) → (Nat → Int32) → (Nat → Int32) → (Nat → Int32) → (Nat → Int32) → Prop} {g0 g1 g2 g3 : Int32} {T V : Nat → Nat} {K f s n : Nat} {a1 a2 a3 a4 a5 : Nat → Int32} (hD : zr_D T V a1 a2) (hf : f < 2) (hs : s < 7) (h : zr_ok 15 (zr_t T V f s) a3 a4 a5)
    (H : ∀ (h0 h1 h2 h3 : Int32) (b3 : Nat → Int32), zr_ok 15 (zr_t T V f (s + 1)) b3 a4 a5 → J (nI (s + 1)) (nI 4) (nI 15) h0 h1 h2 h3 a1 a2 b3 a4 a5) :
    wX_solve_81 post J (nI K) (nI f) (nI s) (n + 1) (nI 4) (nI 4) (nI 15) g0 g1 g2 g3 a1 a2 a3 a4 a5 := by
  refine pk_le 4 4 (fun _ => zr_add (c := fun j => (zr_t T V f s j).1) hD (by omega) hf (fun j hj => (h j hj (zr_s15 j hj)).2.2.2.1) (fun j hj => (h j hj (zr_s15 j hj)).1) (fun h0 h1 h2 h3 b3 hb => ?_)) (fun z => absurd z (by omega))
  have ok := zr_tadd hD (show s < 8 by omega) (fun j hj => ⟨(h j hj (zr_s15 j hj)).2.1, (h j hj (zr_s15 j hj)).2.2.1⟩) hb
  exact pk_loop (σ := Unit) (fun n i _ => wX_solve_137 post J (nI K) (nI f) (nI s) n (nI i) (nI 4) (nI 15) h0 h1 h2 h3 a1 a2 b3 a4 a5) (fun _ _ => True) 4 0 () (by omega) trivial
    (fun n _ _ => pk_le 4 4 (fun _ => nm_r (nI_1 s) (H h0 h1 h2 h3 b3 ok)) (fun z => absurd z (by omega)))
    (fun n i _ hi _ hw => pk_le 4 i (fun z => absurd z (by omega)) (fun _ => zr_last hD hi (pk_eq 7 s (fun z => absurd z (by omega)) (fun _ => nm_r (nI_1 i) (hw () trivial)))))
theorem zr_a2 : ∀ K, K < 16 → ∀ i, i < 4 → (K ||| (16 - 2 ^ i)) < 16 ∧ (K / 2 ^ i % 2 = 0 → (K ||| (16 - 2 ^ i)) / 2 ^ i % 2 = 1 ∧ zr_del (K ||| (16 - 2 ^ i)) i = K ||| (16 - 2 ^ (i + 1))) ∧ (K / 2 ^ i % 2 ≠ 0 → K ||| (16 - 2 ^ (i + 1)) = K ||| (16 - 2 ^ i)) := by decide +kernel
theorem zr_a20 : ∀ K, K < 16 → K ||| (16 - 2 ^ 0) = 15 := by decide +kernel
theorem zr_a24 : ∀ K, K < 16 → K ||| (16 - 2 ^ 4) = K := by decide +kernel
theorem zr_x81c {post : St2 → Prop} {J : Int32 → Int32 → Int32 → Int32 → Int32 → Int32 → Int32 → (Nat → Int32) → (Nat → Int32) → (Nat → Int32) → (Nat → Int32) → (Nat → Int32) → Prop} {g0 g1 g2 g3 : Int32} {T V : Nat → Nat} {K f n : Nat} {a1 a2 a3 a4 a5 : Nat → Int32} (hD : zr_D T V a1 a2) (hK : K < 16) (hf : f < 2) (h : zr_ok 15 (zr_t T V f 7) a3 a4 a5)
    (H : ∀ (h0 h1 h2 h3 : Int32) (b3 b4 b5 : Nat → Int32), zr_ok K (zr_E K (zr_t T V f 8) 4) b3 b4 b5 → J (nI 8) (nI 4) (nI K) h0 h1 h2 h3 a1 a2 b3 b4 b5) :
    wX_solve_81 post J (nI K) (nI f) (nI 7) (n + 1) (nI 4) (nI 4) (nI 15) g0 g1 g2 g3 a1 a2 a3 a4 a5 := by
  refine pk_le 4 4 (fun _ => zr_add (c := fun j => (zr_t T V f 7 j).1) hD (by omega) hf (fun j hj => (h j hj (zr_s15 j hj)).2.2.2.1) (fun j hj => (h j hj (zr_s15 j hj)).1) (fun h0 h1 h2 h3 b3 hb => ?_)) (fun z => absurd z (by omega))
  have ok : zr_ok 15 (zr_t T V f 8) b3 a4 a5 := zr_tadd hD (show 7 < 8 by omega) (fun j hj => ⟨(h j hj (zr_s15 j hj)).2.1, (h j hj (zr_s15 j hj)).2.2.1⟩) hb
  have main : ∃ n, wX_solve_137 post J (nI K) (nI f) (nI 7) n (nI 0) (nI 4) (nI (K ||| (16 - 2 ^ 0))) h0 h1 h2 h3 a1 a2 b3 a4 a5 := by
    refine pk_loop (σ := (Nat → Int32) × (Nat → Int32) × (Nat → Int32)) (fun n i s => wX_solve_137 post J (nI K) (nI f) (nI 7) n (nI i) (nI 4) (nI (K ||| (16 - 2 ^ i))) h0 h1 h2 h3 a1 a2 s.1 s.2.1 s.2.2)
      (fun i s => zr_ok (K ||| (16 - 2 ^ i)) (zr_E K (zr_t T V f 8) i) s.1 s.2.1 s.2.2) 4 0 (b3, a4, a5) (by omega) ?_ ?_ ?_
    · show zr_ok (K ||| (16 - 2 ^ 0)) (zr_E K (zr_t T V f 8) 0) b3 a4 a5
      rw [zr_a20 K hK]
      exact ok
    · intro n s hI
      show wX_solve_137 post J (nI K) (nI f) (nI 7) (n + 1) (nI 4) (nI 4) (nI (K ||| (16 - 2 ^ 4))) h0 h1 h2 h3 a1 a2 s.1 s.2.1 s.2.2
      rw [zr_a24 K hK] at hI ⊢
      exact pk_le 4 4 (fun _ => nm_r (nI_1 7) (H h0 h1 h2 h3 _ _ _ hI)) (fun z => absurd z (by omega))
    · intro n i s hi hI hw
      have hw' : ∀ b3 b4 b5 : Nat → Int32, zr_ok (K ||| (16 - 2 ^ (i + 1))) (zr_E K (zr_t T V f 8) (i + 1)) b3 b4 b5 → wX_solve_137 post J (nI K) (nI f) (nI 7) n (nI (i + 1)) (nI 4) (nI (K ||| (16 - 2 ^ (i + 1)))) h0 h1 h2 h3 a1 a2 b3 b4 b5 := fun b3 b4 b5 hb => hw (b3, b4, b5) hb
      obtain ⟨q1, q2, q3⟩ := zr_a2 K hK i hi
      refine pk_le 4 i (fun z => absurd z (by omega)) (fun _ => zr_last hD hi (br_t rfl ?_))
      refine pk_eq (K / 2 ^ i % 2) 0 (fun z => ?_) (fun z => nm_r (nI_1 i) ?_) (zr_bitA _ hK i hi) rfl (by omega) (by omega)
      · obtain ⟨q4, q5⟩ := q2 z
        have eE : zr_E K (zr_t T V f 8) (i + 1) = fun m => zr_J (zr_E K (zr_t T V f 8) i m) (zr_E K (zr_t T V f 8) i (m ||| 2 ^ i)) := if_neg (by omega)
        rw [← q5, eE] at hw'
        exact zr_end q1 hi q4 hI (fun b3 b4 b5 hb => nm_r (nI_1 i) (hw' b3 b4 b5 hb))
      · have eE : zr_E K (zr_t T V f 8) (i + 1) = zr_E K (zr_t T V f 8) i := if_pos (by omega)
        rw [q3 z, eE] at hw'
        exact hw' _ _ _ hI
  rw [zr_a20 K hK] at main
  exact main
theorem zr_s189 {post : St2 → Prop} {g0 g1 g2 g3 : Int32} {K : Nat} {a1 a2 a3 a4 a5 : Nat → Int32} (hK : K < 16)
    (H : post (nI 4, nI K, g0, g1, g2, g3, a1, a2, a3, a4, a5)) : ∃ n, wX_solve_189 post (nI K) n 0 (nI 4) (nI K) g0 g1 g2 g3 a1 a2 a3 a4 a5 :=
  pk_loop (σ := Unit) (fun n i _ => wX_solve_189 post (nI K) n (nI i) (nI 4) (nI K) g0 g1 g2 g3 a1 a2 a3 a4 a5) (fun _ _ => True) 4 0 () (by omega) trivial
    (fun n _ _ => pk_le 4 4 (fun _ => H) (fun z => absurd z (by omega)))
    (fun n i _ hi _ hw => pk_le 4 i (fun z => absurd z (by omega)) (fun _ => pk_eq (K / 2 ^ i % 2) 0 (fun z => pk_eq (K / 2 ^ i % 2) 1 (fun q => absurd q (by omega)) (fun _ => nm_r (nI_1 i) (hw () trivial)) (zr_bitA _ hK i hi) rfl (by omega) (by omega)) (fun _ => nm_r (nI_1 i) (hw () trivial)) (zr_bitA _ hK i hi) rfl (by omega) (by omega)))
def zr_I (T V : Nat → Nat) (K f i : Nat) (s : Int32 × Int32 × Int32 × Int32 × Int32 × (Nat → Int32) × (Nat → Int32) × (Nat → Int32)) : Prop :=
  (i = 0 → s.1 = nI K ∧ zr_ok K zr_t0 s.2.2.2.2.2.1 s.2.2.2.2.2.2.1 s.2.2.2.2.2.2.2) ∧
  (0 < i → i < 8 → s.1 = nI 15 ∧ zr_ok 15 (zr_t T V f i) s.2.2.2.2.2.1 s.2.2.2.2.2.2.1 s.2.2.2.2.2.2.2) ∧
  (i = 8 → s.1 = nI K ∧ zr_ok K (zr_E K (zr_t T V f 8) 4) s.2.2.2.2.2.1 s.2.2.2.2.2.2.1 s.2.2.2.2.2.2.2)
theorem zr_s72 {post : St2 → Prop} {g0 g1 g2 g3 : Int32} {T V : Nat → Nat} {K f : Nat} {a1 a2 a3 a4 a5 : Nat → Int32} (hD : zr_D T V a1 a2) (hK : K < 16) (hf : f < 2) (h : zr_ok K zr_t0 a3 a4 a5)
    (H : ∀ (h0 h1 h2 h3 : Int32) (b3 b4 b5 : Nat → Int32), zr_ok K (zr_E K (zr_t T V f 8) 4) b3 b4 b5 → post (nI 4, nI K, h0, h1, h2, h3, a1, a2, b3, b4, b5)) :
    ∃ n, wX_solve_72 post (nI K) (nI f) n 0 (nI 4) (nI K) g0 g1 g2 g3 a1 a2 a3 a4 a5 := by
  refine pk_loop (σ := Int32 × Int32 × Int32 × Int32 × Int32 × (Nat → Int32) × (Nat → Int32) × (Nat → Int32)) (fun n i s => wX_solve_72 post (nI K) (nI f) n (nI i) (nI 4) s.1 s.2.1 s.2.2.1 s.2.2.2.1 s.2.2.2.2.1 a1 a2 s.2.2.2.2.2.1 s.2.2.2.2.2.2.1 s.2.2.2.2.2.2.2)
    (zr_I T V K f) 8 0 (nI K, g0, g1, g2, g3, a3, a4, a5) (by omega) ?_ ?_ ?_
  · exact ⟨fun _ => ⟨rfl, h⟩, fun z => absurd z (by omega), fun z => absurd z (by omega)⟩
  · intro n s hI
    obtain ⟨aw, h0, h1, h2, h3, b3, b4, b5⟩ := s
    obtain ⟨e, ok⟩ := hI.2.2 rfl
    dsimp only at e ok ⊢
    subst e
    exact pk_le 8 8 (fun _ => zr_s189 hK (H h0 h1 h2 h3 b3 b4 b5 ok)) (fun z => absurd z (by omega))
  · intro n i s hi hI hw
    obtain ⟨aw, h0, h1, h2, h3, b3, b4, b5⟩ := s
    refine pk_le 8 i (fun z => absurd z (by omega)) (fun _ => ?_)
    by_cases c0 : i = 0
    · subst c0
      obtain ⟨e, ok⟩ := hI.1 rfl
      dsimp only at e ok ⊢
      subst e
      exact zr_s81a hD hK ok (fun m c3 c4 c5 oc => zr_x81b hD hf (by omega) oc (fun k0 k1 k2 k3 d3 od => hw (nI 15, k0, k1, k2, k3, d3, c4, c5) ⟨fun z => absurd z (by omega), fun _ _ => ⟨rfl, od⟩, fun z => absurd z (by omega)⟩))
    · obtain ⟨e, ok⟩ := hI.2.1 (by omega) hi
      dsimp only at e ok ⊢
      subst e
      by_cases c7 : i = 7
      · subst c7
        exact zr_s81b hD (by omega) (by omega) (fun m => zr_x81c hD hK hf ok (fun k0 k1 k2 k3 d3 d4 d5 od => hw (nI K, k0, k1, k2, k3, d3, d4, d5) ⟨fun z => absurd z (by omega), fun _ z => absurd z (by omega), fun _ => ⟨rfl, od⟩⟩))
      · exact zr_s81b hD (by omega) (by omega) (fun m => zr_x81b hD hf (by omega) ok (fun k0 k1 k2 k3 d3 od => hw (nI 15, k0, k1, k2, k3, d3, b4, b5) ⟨fun z => absurd z (by omega), fun _ _ => ⟨rfl, od⟩, fun z => absurd z (by omega)⟩))
theorem zr_solve {post : St2 → Prop} {aw g0 g1 g2 g3 : Int32} {T V : Nat → Nat} {K f : Nat} {p0 p1 : Int32} {a1 a2 a3 a4 a5 : Nat → Int32} (hD : zr_D T V a1 a2) (hK : K < 16) (hf : f < 2) (e0 : p0 = nI K) (e1 : p1 = nI f)
    (H : ∀ (aw' h0 h1 h2 h3 : Int32) (b3 b4 b5 : Nat → Int32), zr_ok K (zr_E K (zr_t T V f 8) 4) b3 b4 b5 → post (nI 4, aw', h0, h1, h2, h3, a1, a2, b3, b4, b5)) :
    wpX_solve post (nI 4, aw, g0, g1, g2, g3, a1, a2, a3, a4, a5) p0 p1 := by
  subst e0 e1
  unfold wpX_solve
  refine nm_e (nm_e (nm_e ?_))
  have e : K % 2 ^ 0 = 0 := Nat.mod_one K
  have main := zr_s28 (post := post) (g0 := g0) (g1 := g1) (g2 := g2) (g3 := g3) (f := f) (a3 := upd a3 0 0) (a4 := upd a4 0 0) (a5 := upd a5 0 1) hD hK (by
    intro j hj hs
    rw [e] at hs
    have ej : j = 0 := by
      have q : ∀ j, j < 16 → zr_sub j 0 = true → j = 0 := by decide +kernel
      exact q j hj hs
    subst ej
    exact ⟨pk_us, pk_us, pk_us, zr_c0b 0, hj⟩) (fun b3 b4 b5 ok => zr_s72 hD hK hf ok (fun h0 h1 h2 h3 c3 c4 c5 oc => H _ h0 h1 h2 h3 c3 c4 c5 oc))
  rw [e] at main
  exact main
end
section
/-! the questions -/
theorem zr_least {post : Int32 → St2 → Prop} {aw g0 g1 g2 g3 : Int32} {T V : Nat → Nat} {a1 a2 a3 a4 a5 : Nat → Int32} (hD : zr_D T V a1 a2)
    (H : ∀ (aw' h0 h1 h2 h3 : Int32) (b3 b4 b5 : Nat → Int32), post (nI (zr_E 0 (zr_t T V 0 8) 4 0).1) (nI 4, aw', h0, h1, h2, h3, a1, a2, b3, b4, b5)) :
    wpX_least post (nI 4, aw, g0, g1, g2, g3, a1, a2, a3, a4, a5) := by
  unfold wpX_least
  refine zr_solve (K := 0) (f := 0) hD (by omega) (by omega) rfl rfl (fun aw' h0 h1 h2 h3 b3 b4 b5 ok => ?_)
  have e := (ok 0 (by omega) rfl).1
  show post (b3 0) (nI 4, aw', h0, h1, h2, h3, a1, a2, b3, b4, b5)
  rw [e]
  exact H aw' h0 h1 h2 h3 b3 b4 b5
theorem zr_forced {post : Int32 → St2 → Prop} {aw g0 g1 g2 g3 : Int32} {T V : Nat → Nat} {a1 a2 a3 a4 a5 : Nat → Int32} (hD : zr_D T V a1 a2)
    (H : ∀ (aw' h0 h1 h2 h3 : Int32) (b3 b4 b5 : Nat → Int32), post (nI (zr_E 0 (zr_t T V 1 8) 4 0).1) (nI 4, aw', h0, h1, h2, h3, a1, a2, b3, b4, b5)) :
    wpX_leastForced post (nI 4, aw, g0, g1, g2, g3, a1, a2, a3, a4, a5) := by
  unfold wpX_leastForced
  refine zr_solve (K := 0) (f := 1) hD (by omega) (by omega) rfl rfl (fun aw' h0 h1 h2 h3 b3 b4 b5 ok => ?_)
  have e := (ok 0 (by omega) rfl).1
  show post (b3 0) (nI 4, aw', h0, h1, h2, h3, a1, a2, b3, b4, b5)
  rw [e]
  exact H aw' h0 h1 h2 h3 b3 b4 b5
theorem zr_sorting {post : Int32 → St2 → Prop} {aw g0 g1 g2 g3 : Int32} {T V : Nat → Nat} {a1 a2 a3 a4 a5 : Nat → Int32} (hD : zr_D T V a1 a2)
    (H : ∀ (aw' h0 h1 h2 h3 : Int32) (b3 b4 b5 : Nat → Int32), post (nI (zr_E 0 (zr_t T V 0 8) 4 0).2.1) (nI 4, aw', h0, h1, h2, h3, a1, a2, b3, b4, b5)) :
    wpX_sorting post (nI 4, aw, g0, g1, g2, g3, a1, a2, a3, a4, a5) := by
  unfold wpX_sorting
  refine zr_solve (K := 0) (f := 0) hD (by omega) (by omega) rfl rfl (fun aw' h0 h1 h2 h3 b3 b4 b5 ok => ?_)
  have e := (ok 0 (by omega) rfl).2.1
  show post (b4 0) (nI 4, aw', h0, h1, h2, h3, a1, a2, b3, b4, b5)
  rw [e]
  exact H aw' h0 h1 h2 h3 b3 b4 b5
theorem zr_ties {post : Int32 → St2 → Prop} {aw g0 g1 g2 g3 : Int32} {T V : Nat → Nat} {a1 a2 a3 a4 a5 : Nat → Int32} (hD : zr_D T V a1 a2)
    (H : ∀ (aw' h0 h1 h2 h3 : Int32) (b3 b4 b5 : Nat → Int32), post (nI (zr_E 0 (zr_t T V 0 8) 4 0).2.2) (nI 4, aw', h0, h1, h2, h3, a1, a2, b3, b4, b5)) :
    wpX_ties post (nI 4, aw, g0, g1, g2, g3, a1, a2, a3, a4, a5) := by
  unfold wpX_ties
  refine zr_solve (K := 0) (f := 0) hD (by omega) (by omega) rfl rfl (fun aw' h0 h1 h2 h3 b3 b4 b5 ok => ?_)
  have e := (ok 0 (by omega) rfl).2.2.1
  show post (b5 0) (nI 4, aw', h0, h1, h2, h3, a1, a2, b3, b4, b5)
  rw [e]
  exact H aw' h0 h1 h2 h3 b3 b4 b5
theorem zr_costOf {post : Int32 → St2 → Prop} {aw g0 g1 g2 g3 : Int32} {T V : Nat → Nat} {p0 : Int32} (m : Nat) {a1 a2 a3 a4 a5 : Nat → Int32} (hD : zr_D T V a1 a2) (hm : m < 16) (em : (p0 &&& 15) &&& (-2) = nI m)
    (H : ∀ h0 h1 h2 h3 : Int32, post (nI (zr_sum (fun t => zr_sc T V 0 t m) 8)) (nI 4, aw, h0, h1, h2, h3, a1, a2, a3, a4, a5)) :
    wpX_costOf post (nI 4, aw, g0, g1, g2, g3, a1, a2, a3, a4, a5) p0 := by
  unfold wpX_costOf
  refine nm_r (show ((1 : Int32) <<< (nI 4 &&& 31)) - 1 = 15 by decide) (nm_r em ?_)
  exact pk_loop (σ := Int32 × Int32 × Int32 × Int32) (fun n i s => wX_costOf_22 post 15 (nI m) n (nI (zr_sum (fun t => zr_sc T V 0 t m) i)) (nI i) (nI 4) aw s.1 s.2.1 s.2.2.1 s.2.2.2 a1 a2 a3 a4 a5) (fun _ _ => True) 8 0 (g0, g1, g2, g3) (by omega) trivial
    (fun n s _ => pk_le 8 8 (fun _ => H _ _ _ _) (fun z => absurd z (by omega)))
    (fun n i s hi _ hw => pk_le 8 i (fun z => absurd z (by omega)) (fun _ => zr_site2 (f := 0) hD hi hm (by omega) (fun h0 h1 h2 h3 => nm_r (nI_add _ _) (nm_r (nI_1 i) (hw (h0, h1, h2, h3) trivial)))))
theorem zr_noRead {post : Int32 → Prop} {aw g0 g1 g2 g3 : Int32} {R r : Nat} {a1 a2 a3 a4 a5 : Nat → Int32} (hR : R ≤ 8) (hr : r < R) (H : post 0) :
    wpX_noRead post (nI R, aw, g0, g1, g2, g3, a1, a2, a3, a4, a5) (nI r) := by
  unfold wpX_noRead
  exact br_f (nI_pos (by omega)) (br_t (nI_lt hr (by omega)) H)
def zr_z (X Y k : Nat) : Int32 := if (if nI k &&& nI X = 0 then (1 : Int32) else 0) = (if nI k &&& nI Y = 0 then (1 : Int32) else 0) then 0 else 1
def zr_el (X Y ap k : Nat) : Bool := decide ((nI k &&& ((nI X ||| nI Y) ^^^ (-1))) = 0) && decide (zr_z X Y k = nI ap)
theorem zr_54 {post : Int32 → St2 → Prop} {rd aw g0 g1 g2 g3 : Int32} {X Y ap K : Nat} {c : Nat → Nat} {a1 a2 a3 a4 a5 : Nat → Int32} (hK : K < 16) (eK : nI X ||| nI Y = nI K) (hc : ∀ j, j < 16 → zr_sub j K = true → a3 j = nI (c j) ∧ c j ≤ 1000000)
    (H : ∀ L, (∀ m, m < 256 → zr_el X Y ap m = true → L ≤ c m) → (L = 1000000 ∨ ∃ m, m < 256 ∧ zr_el X Y ap m = true ∧ L = c m) → post (nI L) (rd, aw, g0, g1, g2, g3, a1, a2, a3, a4, a5)) :
    ∃ n, wX_leastWith_54 post (nI ap) (nI X) (nI Y) rd aw g0 g1 g2 g3 a1 a2 a3 a4 a5 n 1000000 0 := by
  refine pk_loop (σ := Nat) (fun n i L => wX_leastWith_54 post (nI ap) (nI X) (nI Y) rd aw g0 g1 g2 g3 a1 a2 a3 a4 a5 n (nI L) (nI i))
    (fun i L => L ≤ 1000000 ∧ (∀ m, m < i → zr_el X Y ap m = true → L ≤ c m) ∧ (L = 1000000 ∨ ∃ m, m < i ∧ zr_el X Y ap m = true ∧ L = c m)) 256 0 1000000 (by omega) ⟨Nat.le_refl _, fun m hm => absurd hm (by omega), Or.inl rfl⟩ ?_ ?_
  · intro n L hI
    exact pk_le 256 256 (fun _ => H L hI.2.1 hI.2.2) (fun z => absurd z (by omega))
  · intro n i L hi hI hw
    obtain ⟨i1, i2, i3⟩ := hI
    have keep : ¬ (zr_el X Y ap i = true ∧ c i < L) → wX_leastWith_54 post (nI ap) (nI X) (nI Y) rd aw g0 g1 g2 g3 a1 a2 a3 a4 a5 n (nI L) (nI (i + 1)) := by
      intro z
      refine hw L ⟨i1, fun m hm he => ?_, ?_⟩
      · by_cases e : m = i
        · subst e
          rcases Nat.lt_or_ge (c m) L with q | q
          · exact absurd ⟨he, q⟩ z
          · exact q
        · exact i2 m (by omega) he
      · rcases i3 with q | ⟨m, q1, q2, q3⟩
        · exact Or.inl q
        · exact Or.inr ⟨m, by omega, q2, q3⟩
    have go : wX_leastWith_96 post (wX_leastWith_54 post (nI ap) (nI X) (nI Y) rd aw g0 g1 g2 g3 a1 a2 a3 a4 a5 n) (nI ap) (nI X) (nI Y) (nI L) (nI i) (zr_z X Y i) rd aw g0 g1 g2 g3 a1 a2 a3 a4 a5 := by
      unfold wX_leastWith_96
      refine br_c (fun h1 => br_c (fun h2 => ?_) (fun h2 => nm_r (nI_1 i) (keep (fun q => ?_)))) (fun h1 => nm_r (nI_1 i) (keep (fun q => ?_)))
      rotate_left
      · have q1 := q.1
        unfold zr_el at q1
        rw [decide_eq_false h2, Bool.and_false] at q1
        exact absurd q1 (by decide)
      · have q1 := q.1
        unfold zr_el at q1
        rw [decide_eq_false h1, Bool.false_and] at q1
        exact absurd q1 (by decide)
      have he : zr_el X Y ap i = true := by
        unfold zr_el
        rw [decide_eq_true h1, decide_eq_true h2]
        rfl
      have h1' := h1
      rw [eK] at h1'
      obtain ⟨m16, ms⟩ := (zr_m1 K hK i hi).mp h1'
      obtain ⟨cell, cb⟩ := hc i m16 ms
      rw [nI_clamp (show i < 2 ^ 31 by omega), cell]
      refine ⟨pk_in i 256 hi, pk_le L (c i) (fun q => nm_r (nI_1 i) (keep (fun t => absurd t.2 (by omega)))) (fun q => ⟨pk_in i 256 hi, nm_e (nm_r (nI_1 i) (hw (c i) ⟨cb, fun m hm hm2 => ?_, Or.inr ⟨i, by omega, he, rfl⟩⟩))⟩)⟩
      by_cases e : m = i
      · subst e
        exact Nat.le_refl _
      · have := i2 m (by omega) hm2
        omega
    refine pk_le 256 i (fun z => absurd z (by omega)) (fun _ => br_c (fun hx => ?_) (fun hx => ?_))
    · unfold wX_leastWith_75
      refine br_c (fun hy => ?_) (fun hy => ?_)
      · have ez : zr_z X Y i = 0 := by
          unfold zr_z
          rw [if_pos hx, if_pos hy]
          rfl
        rw [ez] at go
        unfold wX_leastWith_88
        exact br_t rfl go
      · have ez : zr_z X Y i = 1 := by
          unfold zr_z
          rw [if_pos hx, if_neg hy]
          rfl
        rw [ez] at go
        unfold wX_leastWith_88
        exact br_f (by decide) go
    · unfold wX_leastWith_75
      refine br_c (fun hy => ?_) (fun hy => ?_)
      · have ez : zr_z X Y i = 1 := by
          unfold zr_z
          rw [if_neg hx, if_pos hy]
          rfl
        rw [ez] at go
        unfold wX_leastWith_88
        exact br_f (by decide) go
      · have ez : zr_z X Y i = 0 := by
          unfold zr_z
          rw [if_neg hx, if_neg hy]
          rfl
        rw [ez] at go
        unfold wX_leastWith_88
        exact br_t rfl go
theorem zr_leastWith {post : Int32 → St2 → Prop} {aw g0 g1 g2 g3 : Int32} {T V : Nat → Nat} {p0 p1 p2 : Int32} (r1 r2 ap K : Nat) {a1 a2 a3 a4 a5 : Nat → Int32} (hD : zr_D T V a1 a2) (h1 : r1 < 4) (h2 : r2 < 4) (hne : r1 ≠ r2) (eK : 2 ^ r1 ||| 2 ^ r2 = K) (e0 : p0 = nI r1) (e1 : p1 = nI r2) (e2 : p2 = nI ap)
    (H : ∀ (L : Nat) (aw' h0 h1 h2 h3 : Int32) (b3 b4 b5 : Nat → Int32), (∀ m, m < 256 → zr_el (2 ^ r1) (2 ^ r2) ap m = true → L ≤ (zr_E K (zr_t T V 0 8) 4 m).1) → (L = 1000000 ∨ ∃ m, m < 256 ∧ zr_el (2 ^ r1) (2 ^ r2) ap m = true ∧ L = (zr_E K (zr_t T V 0 8) 4 m).1) → post (nI L) (nI 4, aw', h0, h1, h2, h3, a1, a2, b3, b4, b5)) :
    wpX_leastWith post (nI 4, aw, g0, g1, g2, g3, a1, a2, a3, a4, a5) p0 p1 p2 := by
  subst e0 e1 e2
  have q16 : ∀ r, r < 4 → 2 ^ r < 16 := by decide
  obtain ⟨o1, o2⟩ := zr_or (2 ^ r1) (q16 r1 h1) r2 h2
  rw [eK] at o1 o2
  unfold wpX_leastWith
  refine zr_noRead (by omega) h1 (br_t rfl (zr_noRead (by omega) h2 (br_t rfl ?_)))
  refine br_f (fun z => hne ((nI_eq (by omega) (by omega)).mp z)) ?_
  unfold wX_leastWith_27
  refine nm_r (zr_sh r1 h1) (nm_r (zr_sh r2 h2) ?_)
  refine zr_solve (K := K) (f := 0) hD o2 (by omega) o1 rfl (fun aw' k0 k1 k2 k3 b3 b4 b5 ok => ?_)
  exact zr_54 (c := fun j => (zr_E K (zr_t T V 0 8) 4 j).1) o2 o1 (fun j hj hs => ⟨(ok j hj hs).1, (ok j hj hs).2.2.2.1⟩) (fun L l1 l2 => H L aw' k0 k1 k2 k3 b3 b4 b5 l1 l2)
theorem zr_cover {post : Int32 → Prop} {aw g0 g1 g2 g3 : Int32} {s : Nat} {a1 a2 a3 a4 a5 : Nat → Int32} (hs : s < 8) (h : ∀ i, i < 5 → ∃ t, 1 ≤ t ∧ t ≤ 9 ∧ a1 (i * 8 + s) = nI t) (H : post (nI 5)) :
    wpX_cover post (nI 5, aw, g0, g1, g2, g3, a1, a2, a3, a4, a5) (nI s) := by
  unfold wpX_cover
  refine br_f (nI_pos (by omega)) (br_t (nI_lt (b := 8) hs (by omega)) ?_)
  refine pk_loop (σ := Unit) (fun n i _ => wX_cover_17 post (nI s) (nI 5) aw g0 g1 g2 g3 a1 a2 a3 a4 a5 n (nI i) (nI i)) (fun _ _ => True) 5 0 () (by omega) trivial
    (fun n _ _ => pk_le 5 5 (fun _ => H) (fun z => absurd z (by omega))) ?_
  intro n i _ hi _ hw
  obtain ⟨t, t1, t2, ht⟩ := h i hi
  refine pk_le 5 i (fun z => absurd z (by omega)) (fun _ => ?_)
  rw [zr_at, nI_clamp (by omega), ht]
  exact ⟨pk_in (i * 8 + s) 64 (by omega), br_f (nI_nle t1 (by omega)) (nm_r (nI_1 i) (nm_r (nI_1 i) (hw () trivial)))⟩
theorem zr_drop {post : Int32 → St2 → Prop} {aw g0 g1 g2 g3 : Int32} {a1 a2 a3 a4 a5 : Nat → Int32} (H : post (nI 4) (nI 4, aw, g0, g1, g2, g3, a1, a2, a3, a4, a5)) :
    wpX_drop post (nI 5, aw, g0, g1, g2, g3, a1, a2, a3, a4, a5) := by
  unfold wpX_drop
  exact br_f (by decide) (nm_r (nI_pred 4) H)
end
section
/-! read, say, stretch, bits, cells -/
theorem zr_read {post : Int32 → St2 → Prop} {aw g0 g1 g2 g3 : Int32} {R : Nat} {a1 a2 a3 a4 a5 : Nat → Int32} (hR : R < 8)
    (H : ∀ b1 : Nat → Int32, (∀ j, j < R * 8 → b1 j = a1 j) → post (nI R) (nI (R + 1), aw, g0, g1, g2, g3, b1, a2, a3, a4, a5)) :
    wpX_read post (nI R, aw, g0, g1, g2, g3, a1, a2, a3, a4, a5) := by
  unfold wpX_read
  refine br_t (nI_lt (b := 8) hR (by omega)) ?_
  refine pk_loop (σ := Nat → Int32) (fun n i s => wX_read_14 post (nI R) aw g0 g1 g2 g3 n (nI i) s a2 a3 a4 a5) (fun _ s => ∀ j, j < R * 8 → s j = a1 j) 8 0 a1 (by omega) (fun j _ => rfl) ?_ ?_
  · intro n s hI
    refine pk_le 8 8 (fun _ => nm_r (nI_1 R) ?_) (fun z => absurd z (by omega))
    rw [nI_pred]
    exact H s hI
  · intro n i s hi hI hw
    refine pk_le 8 i (fun z => absurd z (by omega)) (fun _ => ?_)
    rw [zr_at, nI_clamp (by omega)]
    refine ⟨pk_in (R * 8 + i) 64 (by omega), nm_e (nm_r (nI_1 i) (hw _ (fun j hj => ?_)))⟩
    rw [pk_un (by omega)]
    exact hI j hj
theorem zr_say {post : Int32 → St2 → Prop} {aw g0 g1 g2 g3 p0 p1 p3 : Int32} {R r s t : Nat} {v : Int32} {a1 a2 a3 a4 a5 : Nat → Int32} (hR : R ≤ 8) (hr : r < R) (hs : s < 8) (ht : t ≤ 9) (e0 : p0 = nI r) (e1 : p1 = nI s) (e3 : p3 = nI t)
    (H : post (a1 (r * 8 + s)) (nI R, aw, g0, g1, g2, g3, upd a1 (r * 8 + s) (nI t), upd a2 (r * 8 + s) (v &&& 1), a3, a4, a5)) :
    wpX_say post (nI R, aw, g0, g1, g2, g3, a1, a2, a3, a4, a5) p0 p1 v p3 := by
  subst e0 e1 e3
  unfold wpX_say
  refine zr_noRead hR hr (br_t rfl (br_f (nI_pos (by omega)) (br_t (nI_lt (b := 8) hs (by omega)) (br_f (nI_pos (by omega)) (br_t (nI_le (b := 9) ht (by omega)) (nm_r zr_at ?_))))))
  rw [nI_clamp (by omega)]
  have q : vp_in (nI (r * 8 + s)) 64 := pk_in (r * 8 + s) 64 (by omega)
  exact ⟨q, nm_e ⟨q, nm_e ⟨q, nm_e H⟩⟩⟩
theorem zr_and1 : ∀ v, v < 2 → nI v &&& 1 = nI v := by decide +kernel
theorem zr_stretch {post : Int32 → St2 → Prop} {aw g0 g1 g2 g3 x p2 : Int32} {R w : Nat} {v : Nat → Nat} {a1 a2 a3 a4 a5 : Nat → Int32} (hR : R < 8) (hw1 : 1 ≤ w) (hw9 : w ≤ 9) (e2 : p2 = nI w) (hv : ∀ i, i < 8 → ((x >>> (nI i &&& 31)) &&& 1) = nI (v i) ∧ v i < 2)
    (H : ∀ b1 b2 : Nat → Int32, (∀ j, j < R * 8 → b1 j = a1 j ∧ b2 j = a2 j) → (∀ i, i < 8 → b1 (R * 8 + i) = nI w ∧ b2 (R * 8 + i) = nI (v i)) → post (nI R) (nI (R + 1), aw, g0, g1, g2, g3, b1, b2, a3, a4, a5)) :
    wpX_stretch post (nI R, aw, g0, g1, g2, g3, a1, a2, a3, a4, a5) 64 x p2 := by
  subst e2
  unfold wpX_stretch
  refine nm_r (show (64 : Int32) &&& 7 = nI 0 by decide) (nm_r (show ((64 : Int32) >>> ((3 : Int32) &&& 31)) &&& 15 = nI 8 by decide) ?_)
  refine br_f (by decide) (br_f (by decide) (br_t (by decide) (br_f (nI_nlt (b := 1) hw1 (by omega)) (br_t (nI_le (b := 9) hw9 (by omega)) ?_))))
  refine zr_read hR (fun c1 hc1 => br_t (nI_pos' (by omega)) ?_)
  refine pk_loop (σ := (Nat → Int32) × (Nat → Int32)) (fun n i s => wX_stretch_71 post x (nI w) (nI 0) (nI 8) (nI R) n (nI i) (nI (R + 1)) aw g0 g1 g2 g3 s.1 s.2 a3 a4 a5)
    (fun i s => (∀ j, j < R * 8 → s.1 j = a1 j ∧ s.2 j = a2 j) ∧ (∀ k, k < i → s.1 (R * 8 + k) = nI w ∧ s.2 (R * 8 + k) = nI (v k))) 8 0 (c1, a2) (by omega) ⟨fun j hj => ⟨hc1 j hj, rfl⟩, fun k hk => absurd hk (by omega)⟩ ?_ ?_
  · intro n s hI
    exact pk_le 8 8 (fun _ => H _ _ hI.1 hI.2) (fun z => absurd z (by omega))
  · intro n i s hi hI hw
    refine pk_le 8 i (fun z => absurd z (by omega)) (fun _ => ?_)
    refine zr_say (r := R) (s := i) (t := w) (by omega) (by omega) hi hw9 rfl (by rw [nI_add, Nat.zero_add]) rfl (nm_r (nI_1 i) ?_)
    rw [(hv i hi).1, zr_and1 _ (hv i hi).2]
    refine hw (upd s.1 (R * 8 + i) (nI w), upd s.2 (R * 8 + i) (nI (v i))) ⟨fun j hj => ?_, fun k hk => ?_⟩
    · exact ⟨(pk_un (by omega)).trans (hI.1 j hj).1, (pk_un (by omega)).trans (hI.1 j hj).2⟩
    · by_cases e : k = i
      · subst e
        exact ⟨pk_us, pk_us⟩
      · exact ⟨(pk_un (by omega)).trans (hI.2 k (by omega)).1, (pk_un (by omega)).trans (hI.2 k (by omega)).2⟩
theorem zr_bits {post : Int32 → Prop} {x : Nat} {p0 : Int32} (hx : x < 256) (e0 : p0 = nI x) (H : post (nI (zr_sum (fun i => x / 2 ^ i % 2) 8))) : wpL_bits post () p0 := by
  subst e0
  unfold wpL_bits
  refine pk_loop (σ := Unit) (fun n i _ => wL_bits_4 post (nI x) n (nI (zr_sum (fun i => x / 2 ^ i % 2) i)) (nI i)) (fun _ _ => True) 8 0 () (by omega) trivial
    (fun n _ _ => pk_le 8 8 (fun _ => H) (fun z => absurd z (by omega))) ?_
  intro n i _ hi _ hw
  refine pk_le 8 i (fun z => absurd z (by omega)) (fun _ => ?_)
  rw [zr_bit x hx i hi]
  exact nm_r (nI_add _ _) (nm_r (nI_1 i) (hw () trivial))
theorem zr_cell {post : Int32 → Prop} {L : Nat} {xs : Nat → Int32} {p : Int32} (k : Nat) (hL : L ≤ 4) (hk : k < 4) (ep : p = nI k) (H : ∀ r, post r) : wpL_cellAt post L xs () p := by
  subst ep
  unfold wpL_cellAt
  exact pk_le L k (fun _ => H _) (fun z => ⟨pk_in k L z, H _⟩)
end
section
/-! the plain law (printed by print09.py) -/
def zr_sv (f m t0 t1 t2 t3 v0 v1 v2 v3 : Nat) : Nat := if f = 0 then min (0 + (1 - m / 2 ^ 0 % 2) * (1 - v0) * t0 + (1 - m / 2 ^ 1 % 2) * (1 - v1) * t1 + (1 - m / 2 ^ 2 % 2) * (1 - v2) * t2 + (1 - m / 2 ^ 3 % 2) * (1 - v3) * t3) (0 + (1 - m / 2 ^ 0 % 2) * v0 * t0 + (1 - m / 2 ^ 1 % 2) * v1 * t1 + (1 - m / 2 ^ 2 % 2) * v2 * t2 + (1 - m / 2 ^ 3 % 2) * v3 * t3) + min (0 + m / 2 ^ 0 % 2 * (1 - v0) * t0 + m / 2 ^ 1 % 2 * (1 - v1) * t1 + m / 2 ^ 2 % 2 * (1 - v2) * t2 + m / 2 ^ 3 % 2 * (1 - v3) * t3) (0 + m / 2 ^ 0 % 2 * v0 * t0 + m / 2 ^ 1 % 2 * v1 * t1 + m / 2 ^ 2 % 2 * v2 * t2 + m / 2 ^ 3 % 2 * v3 * t3) else min ((0 + (1 - m / 2 ^ 0 % 2) * (1 - v0) * t0 + (1 - m / 2 ^ 1 % 2) * (1 - v1) * t1 + (1 - m / 2 ^ 2 % 2) * (1 - v2) * t2 + (1 - m / 2 ^ 3 % 2) * (1 - v3) * t3) + (0 + m / 2 ^ 0 % 2 * v0 * t0 + m / 2 ^ 1 % 2 * v1 * t1 + m / 2 ^ 2 % 2 * v2 * t2 + m / 2 ^ 3 % 2 * v3 * t3)) ((0 + (1 - m / 2 ^ 0 % 2) * v0 * t0 + (1 - m / 2 ^ 1 % 2) * v1 * t1 + (1 - m / 2 ^ 2 % 2) * v2 * t2 + (1 - m / 2 ^ 3 % 2) * v3 * t3) + (0 + m / 2 ^ 0 % 2 * (1 - v0) * t0 + m / 2 ^ 1 % 2 * (1 - v1) * t1 + m / 2 ^ 2 % 2 * (1 - v2) * t2 + m / 2 ^ 3 % 2 * (1 - v3) * t3))
theorem zr_scv (T V : Nat → Nat) (f s m : Nat) : zr_sc T V f s m = zr_sv f m (T (0 * 8 + s)) (T (1 * 8 + s)) (T (2 * 8 + s)) (T (3 * 8 + s)) (V (0 * 8 + s)) (V (1 * 8 + s)) (V (2 * 8 + s)) (V (3 * 8 + s)) := rfl
theorem zr_u0 {w : Nat} (α β : Nat) (hα : α < 2) (hβ : β < 2) : zr_sv 0 0 w w w w α β α β = 2 * (w * ((α + β) % 2)) := by
  rcases (show α = 0 ∨ α = 1 by omega) with rfl | rfl <;> rcases (show β = 0 ∨ β = 1 by omega) with rfl | rfl <;> simp [zr_sv] <;> omega
theorem zr_u2 {w : Nat} (α β : Nat) (hα : α < 2) (hβ : β < 2) : zr_sv 0 2 w w w w α β α β = 1 * (w * ((α + β) % 2)) := by
  rcases (show α = 0 ∨ α = 1 by omega) with rfl | rfl <;> rcases (show β = 0 ∨ β = 1 by omega) with rfl | rfl <;> simp [zr_sv] <;> omega
theorem zr_u4 {w : Nat} (α β : Nat) (hα : α < 2) (hβ : β < 2) : zr_sv 0 4 w w w w α β α β = 1 * (w * ((α + β) % 2)) := by
  rcases (show α = 0 ∨ α = 1 by omega) with rfl | rfl <;> rcases (show β = 0 ∨ β = 1 by omega) with rfl | rfl <;> simp [zr_sv] <;> omega
theorem zr_u6 {w : Nat} (α β : Nat) (hα : α < 2) (hβ : β < 2) : zr_sv 0 6 w w w w α β α β = 2 * (w * ((α + β) % 2)) := by
  rcases (show α = 0 ∨ α = 1 by omega) with rfl | rfl <;> rcases (show β = 0 ∨ β = 1 by omega) with rfl | rfl <;> simp [zr_sv] <;> omega
theorem zr_u8 {w : Nat} (α β : Nat) (hα : α < 2) (hβ : β < 2) : zr_sv 0 8 w w w w α β α β = 1 * (w * ((α + β) % 2)) := by
  rcases (show α = 0 ∨ α = 1 by omega) with rfl | rfl <;> rcases (show β = 0 ∨ β = 1 by omega) with rfl | rfl <;> simp [zr_sv] <;> omega
theorem zr_u10 {w : Nat} (α β : Nat) (hα : α < 2) (hβ : β < 2) : zr_sv 0 10 w w w w α β α β = 0 * (w * ((α + β) % 2)) := by
  rcases (show α = 0 ∨ α = 1 by omega) with rfl | rfl <;> rcases (show β = 0 ∨ β = 1 by omega) with rfl | rfl <;> simp [zr_sv] <;> omega
theorem zr_u12 {w : Nat} (α β : Nat) (hα : α < 2) (hβ : β < 2) : zr_sv 0 12 w w w w α β α β = 2 * (w * ((α + β) % 2)) := by
  rcases (show α = 0 ∨ α = 1 by omega) with rfl | rfl <;> rcases (show β = 0 ∨ β = 1 by omega) with rfl | rfl <;> simp [zr_sv] <;> omega
theorem zr_u14 {w : Nat} (α β : Nat) (hα : α < 2) (hβ : β < 2) : zr_sv 0 14 w w w w α β α β = 1 * (w * ((α + β) % 2)) := by
  rcases (show α = 0 ∨ α = 1 by omega) with rfl | rfl <;> rcases (show β = 0 ∨ β = 1 by omega) with rfl | rfl <;> simp [zr_sv] <;> omega
theorem zr_w0 {w : Nat} (α β : Nat) (hα : α < 2) (hβ : β < 2) : zr_sv 1 0 w w w w α β α β = 0 * (w * (1 - (α + β) % 2)) + 2 * (w * ((α + β) % 2)) := by
  rcases (show α = 0 ∨ α = 1 by omega) with rfl | rfl <;> rcases (show β = 0 ∨ β = 1 by omega) with rfl | rfl <;> simp [zr_sv] <;> omega
theorem zr_w2 {w : Nat} (α β : Nat) (hα : α < 2) (hβ : β < 2) : zr_sv 1 2 w w w w α β α β = 1 * (w * (1 - (α + β) % 2)) + 1 * (w * ((α + β) % 2)) := by
  rcases (show α = 0 ∨ α = 1 by omega) with rfl | rfl <;> rcases (show β = 0 ∨ β = 1 by omega) with rfl | rfl <;> simp [zr_sv] <;> omega
theorem zr_w4 {w : Nat} (α β : Nat) (hα : α < 2) (hβ : β < 2) : zr_sv 1 4 w w w w α β α β = 1 * (w * (1 - (α + β) % 2)) + 1 * (w * ((α + β) % 2)) := by
  rcases (show α = 0 ∨ α = 1 by omega) with rfl | rfl <;> rcases (show β = 0 ∨ β = 1 by omega) with rfl | rfl <;> simp [zr_sv] <;> omega
theorem zr_w6 {w : Nat} (α β : Nat) (hα : α < 2) (hβ : β < 2) : zr_sv 1 6 w w w w α β α β = 2 * (w * (1 - (α + β) % 2)) + 2 * (w * ((α + β) % 2)) := by
  rcases (show α = 0 ∨ α = 1 by omega) with rfl | rfl <;> rcases (show β = 0 ∨ β = 1 by omega) with rfl | rfl <;> simp [zr_sv] <;> omega
theorem zr_w8 {w : Nat} (α β : Nat) (hα : α < 2) (hβ : β < 2) : zr_sv 1 8 w w w w α β α β = 1 * (w * (1 - (α + β) % 2)) + 1 * (w * ((α + β) % 2)) := by
  rcases (show α = 0 ∨ α = 1 by omega) with rfl | rfl <;> rcases (show β = 0 ∨ β = 1 by omega) with rfl | rfl <;> simp [zr_sv] <;> omega
theorem zr_w10 {w : Nat} (α β : Nat) (hα : α < 2) (hβ : β < 2) : zr_sv 1 10 w w w w α β α β = 2 * (w * (1 - (α + β) % 2)) + 0 * (w * ((α + β) % 2)) := by
  rcases (show α = 0 ∨ α = 1 by omega) with rfl | rfl <;> rcases (show β = 0 ∨ β = 1 by omega) with rfl | rfl <;> simp [zr_sv] <;> omega
theorem zr_w12 {w : Nat} (α β : Nat) (hα : α < 2) (hβ : β < 2) : zr_sv 1 12 w w w w α β α β = 2 * (w * (1 - (α + β) % 2)) + 2 * (w * ((α + β) % 2)) := by
  rcases (show α = 0 ∨ α = 1 by omega) with rfl | rfl <;> rcases (show β = 0 ∨ β = 1 by omega) with rfl | rfl <;> simp [zr_sv] <;> omega
theorem zr_w14 {w : Nat} (α β : Nat) (hα : α < 2) (hβ : β < 2) : zr_sv 1 14 w w w w α β α β = 1 * (w * (1 - (α + β) % 2)) + 1 * (w * ((α + β) % 2)) := by
  rcases (show α = 0 ∨ α = 1 by omega) with rfl | rfl <;> rcases (show β = 0 ∨ β = 1 by omega) with rfl | rfl <;> simp [zr_sv] <;> omega
theorem zr_v10 {w u : Nat} (α β : Nat) (hα : α < 2) (hβ : β < 2) : zr_sv 0 10 w w w u α β α (1 - β) = min w u := by
  rcases (show α = 0 ∨ α = 1 by omega) with rfl | rfl <;> rcases (show β = 0 ∨ β = 1 by omega) with rfl | rfl <;> simp [zr_sv] <;> omega
theorem zr_v8 {w u : Nat} (α : Nat) (hα : α < 2) : zr_sv 0 8 w w w u α α α (1 - α) = 0 := by
  rcases (show α = 0 ∨ α = 1 by omega) with rfl | rfl <;> simp [zr_sv]
theorem zr_sum_mul (k : Nat) (x : Nat → Nat) (n : Nat) : zr_sum (fun i => k * x i) n = k * zr_sum x n := by
  induction n with
  | zero => rfl
  | succ n ih =>
    show zr_sum (fun i => k * x i) n + k * x n = k * (zr_sum x n + x n)
    rw [ih, Nat.mul_add]
theorem zr_sum_add (f g : Nat → Nat) (n : Nat) : zr_sum (fun i => f i + g i) n = zr_sum f n + zr_sum g n := by
  induction n with
  | zero => rfl
  | succ n ih =>
    show zr_sum (fun i => f i + g i) n + (f n + g n) = zr_sum f n + f n + (zr_sum g n + g n)
    rw [ih]
    omega
theorem zr_sum_cpl (e : Nat → Nat) (he : ∀ i, e i ≤ 1) (n : Nat) : zr_sum (fun i => 1 - e i) n = n - zr_sum e n ∧ zr_sum e n ≤ n := by
  induction n with
  | zero => exact ⟨rfl, Nat.le_refl _⟩
  | succ n ih =>
    have h := he n
    show zr_sum (fun i => 1 - e i) n + (1 - e n) = n + 1 - (zr_sum e n + e n) ∧ zr_sum e n + e n ≤ n + 1
    rw [ih.1]
    omega
theorem zr_sum_zero {f : Nat → Nat} : ∀ n, zr_sum f n = 0 → ∀ i, i < n → f i = 0 := by
  intro n
  induction n with
  | zero => intro _ i hi; exact absurd hi (by omega)
  | succ n ih =>
    intro h i hi
    have h' : zr_sum f n + f n = 0 := h
    by_cases e : i = n
    · subst e
      omega
    · exact ih (by omega) i (by omega)
theorem zr_sum_one {f : Nat → Nat} {p : Nat} : ∀ n, (∀ i, i < n → i ≠ p → f i = 0) → zr_sum f n = if p < n then f p else 0 := by
  intro n
  induction n with
  | zero => intro _; rfl
  | succ n ih =>
    intro h
    show zr_sum f n + f n = _
    rw [ih (fun i hi => h i (by omega))]
    by_cases e : p = n
    · subst e
      rw [if_neg (by omega), if_pos (by omega)]
      omega
    · have h2 := h n (by omega) (by omega)
      by_cases l : p < n
      · rw [if_pos l, if_pos (by omega), h2, Nat.add_zero]
      · rw [if_neg l, if_neg (by omega), h2]
theorem zr_sum_ge {x g : Nat → Nat} {p w : Nat} (hp : x p ≤ w) : ∀ n, (∀ i, i < n → i ≠ p → x i ≤ g i) → zr_sum x n ≤ zr_sum g n + if p < n then w else 0 := by
  intro n
  induction n with
  | zero => intro _; exact Nat.zero_le _
  | succ n ih =>
    intro h
    have h1 := ih (fun i hi => h i (by omega))
    show zr_sum x n + x n ≤ zr_sum g n + g n + if p < n + 1 then w else 0
    by_cases e : p = n
    · subst e
      rw [if_neg (by omega)] at h1
      rw [if_pos (by omega)]
      omega
    · have h2 := h n (by omega) (by omega)
      by_cases l : p < n
      · rw [if_pos l] at h1
        rw [if_pos (by omega)]
        omega
      · rw [if_neg l] at h1
        rw [if_neg (by omega)]
        omega
/-- what the four reads say: a, b, a, b -/
def zr_V (a b j : Nat) : Nat := if j / 8 % 2 = 0 then a / 2 ^ (j % 8) % 2 else b / 2 ^ (j % 8) % 2
theorem zr_Vs (a b s : Nat) (hs : s < 8) : zr_V a b (0 * 8 + s) = a / 2 ^ s % 2 ∧ zr_V a b (1 * 8 + s) = b / 2 ^ s % 2 ∧ zr_V a b (2 * 8 + s) = a / 2 ^ s % 2 ∧ zr_V a b (3 * 8 + s) = b / 2 ^ s % 2 := by
  unfold zr_V
  refine ⟨?_, ?_, ?_, ?_⟩
  · rw [if_pos (by omega), show (0 * 8 + s) % 8 = s by omega]
  · rw [if_neg (by omega), show (1 * 8 + s) % 8 = s by omega]
  · rw [if_pos (by omega), show (2 * 8 + s) % 8 = s by omega]
  · rw [if_neg (by omega), show (3 * 8 + s) % 8 = s by omega]
theorem zr_xor (a b s : Nat) : (a / 2 ^ s % 2 + b / 2 ^ s % 2) % 2 = (a ^^^ b) / 2 ^ s % 2 := by
  rw [Nat.xor_div_two_pow]
  have h := @Nat.xor_mod_two_eq_one (a / 2 ^ s) (b / 2 ^ s)
  generalize a / 2 ^ s = u at *
  generalize b / 2 ^ s = v at *
  generalize u ^^^ v = t at *
  omega
/-- how many sites differ -/
def zr_d (a b : Nat) : Nat := zr_sum (fun i => (a ^^^ b) / 2 ^ i % 2) 8
theorem zr_e1 (a b i : Nat) : (a ^^^ b) / 2 ^ i % 2 ≤ 1 := Nat.le_of_lt_succ (Nat.mod_lt _ (by omega))
theorem zr_d8 (a b : Nat) : zr_d a b ≤ 8 := (zr_sum_cpl _ (zr_e1 a b) 8).2
/-- the cost of a mask -/
def zr_C (T V : Nat → Nat) (f m : Nat) : Nat := zr_sum (fun i => zr_sc T V f i m) 8
theorem zr_sc0 {w a b f m s : Nat} (hs : s < 8) : zr_sc (fun _ => w) (zr_V a b) f s m = zr_sv f m w w w w (a / 2 ^ s % 2) (b / 2 ^ s % 2) (a / 2 ^ s % 2) (b / 2 ^ s % 2) := by
  obtain ⟨v0, v1, v2, v3⟩ := zr_Vs a b s hs
  rw [zr_scv, v0, v1, v2, v3]
theorem zr_C0 {w a b k m : Nat} (hk : ∀ α β, α < 2 → β < 2 → zr_sv 0 m w w w w α β α β = k * (w * ((α + β) % 2))) : zr_C (fun _ => w) (zr_V a b) 0 m = k * (w * zr_d a b) := by
  have e : zr_C (fun _ => w) (zr_V a b) 0 m = zr_sum (fun i => k * (w * ((a ^^^ b) / 2 ^ i % 2))) 8 := zr_sum_eq 8 (fun i hi => by
    show zr_sc (fun _ => w) (zr_V a b) 0 i m = k * (w * ((a ^^^ b) / 2 ^ i % 2))
    rw [zr_sc0 hi, hk _ _ (Nat.mod_lt _ (by omega)) (Nat.mod_lt _ (by omega)), zr_xor])
  rw [e, zr_sum_mul k (fun i => w * ((a ^^^ b) / 2 ^ i % 2)), zr_sum_mul w (fun i => (a ^^^ b) / 2 ^ i % 2)]
  rfl
theorem zr_C1 {w a b k l m : Nat} (hk : ∀ α β, α < 2 → β < 2 → zr_sv 1 m w w w w α β α β = k * (w * (1 - (α + β) % 2)) + l * (w * ((α + β) % 2))) : zr_C (fun _ => w) (zr_V a b) 1 m = k * (w * (8 - zr_d a b)) + l * (w * zr_d a b) := by
  have e : zr_C (fun _ => w) (zr_V a b) 1 m = zr_sum (fun i => k * (w * (1 - (a ^^^ b) / 2 ^ i % 2)) + l * (w * ((a ^^^ b) / 2 ^ i % 2))) 8 := zr_sum_eq 8 (fun i hi => by
    show zr_sc (fun _ => w) (zr_V a b) 1 i m = k * (w * (1 - (a ^^^ b) / 2 ^ i % 2)) + l * (w * ((a ^^^ b) / 2 ^ i % 2))
    rw [zr_sc0 hi, hk _ _ (Nat.mod_lt _ (by omega)) (Nat.mod_lt _ (by omega)), zr_xor])
  rw [e, zr_sum_add (fun i => k * (w * (1 - (a ^^^ b) / 2 ^ i % 2))) (fun i => l * (w * ((a ^^^ b) / 2 ^ i % 2))), zr_sum_mul k (fun i => w * (1 - (a ^^^ b) / 2 ^ i % 2)), zr_sum_mul l (fun i => w * ((a ^^^ b) / 2 ^ i % 2)), zr_sum_mul w (fun i => 1 - (a ^^^ b) / 2 ^ i % 2), zr_sum_mul w (fun i => (a ^^^ b) / 2 ^ i % 2), (zr_sum_cpl (fun i => (a ^^^ b) / 2 ^ i % 2) (zr_e1 a b) 8).1]
  rfl
theorem zr_E0_0 (tb : Nat → Nat × Nat × Nat) : zr_E 0 tb 4 0 = (zr_J (zr_J (zr_J (zr_J (tb 0) (tb 1)) (zr_J (tb 2) (tb 3))) (zr_J (zr_J (tb 4) (tb 5)) (zr_J (tb 6) (tb 7)))) (zr_J (zr_J (zr_J (tb 8) (tb 9)) (zr_J (tb 10) (tb 11))) (zr_J (zr_J (tb 12) (tb 13)) (zr_J (tb 14) (tb 15))))) := rfl
theorem zr_M0_0 (T V : Nat → Nat) (f : Nat) : (zr_E 0 (zr_t T V f 8) 4 0).1 = (min (min (min (min (zr_C T V f 0) 1000000) (min (zr_C T V f 2) 1000000)) (min (min (zr_C T V f 4) 1000000) (min (zr_C T V f 6) 1000000))) (min (min (min (zr_C T V f 8) 1000000) (min (zr_C T V f 10) 1000000)) (min (min (zr_C T V f 12) 1000000) (min (zr_C T V f 14) 1000000)))) := by
  rw [zr_E0_0]
  simp only [zr_J1]
  rfl
theorem zr_E5_0 (tb : Nat → Nat × Nat × Nat) : zr_E 5 tb 4 0 = (zr_J (zr_J (tb 0) (tb 2)) (zr_J (tb 8) (tb 10))) := rfl
theorem zr_M5_0 (T V : Nat → Nat) (f : Nat) : (zr_E 5 (zr_t T V f 8) 4 0).1 = (min (min (zr_C T V f 0) (zr_C T V f 2)) (min (zr_C T V f 8) (zr_C T V f 10))) := by
  rw [zr_E5_0]
  simp only [zr_J1]
  rfl
theorem zr_E5_5 (tb : Nat → Nat × Nat × Nat) : zr_E 5 tb 4 5 = (zr_J (zr_J (tb 5) (tb 7)) (zr_J (tb 13) (tb 15))) := rfl
theorem zr_M5_5 (T V : Nat → Nat) (f : Nat) : (zr_E 5 (zr_t T V f 8) 4 5).1 = (min (min 1000000 1000000) (min 1000000 1000000)) := by
  rw [zr_E5_5]
  simp only [zr_J1]
  rfl
theorem zr_E3_0 (tb : Nat → Nat × Nat × Nat) : zr_E 3 tb 4 0 = (zr_J (zr_J (tb 0) (tb 4)) (zr_J (tb 8) (tb 12))) := rfl
theorem zr_M3_0 (T V : Nat → Nat) (f : Nat) : (zr_E 3 (zr_t T V f 8) 4 0).1 = (min (min (zr_C T V f 0) (zr_C T V f 4)) (min (zr_C T V f 8) (zr_C T V f 12))) := by
  rw [zr_E3_0]
  simp only [zr_J1]
  rfl
theorem zr_E3_1 (tb : Nat → Nat × Nat × Nat) : zr_E 3 tb 4 1 = (zr_J (zr_J (tb 1) (tb 5)) (zr_J (tb 9) (tb 13))) := rfl
theorem zr_M3_1 (T V : Nat → Nat) (f : Nat) : (zr_E 3 (zr_t T V f 8) 4 1).1 = (min (min 1000000 1000000) (min 1000000 1000000)) := by
  rw [zr_E3_1]
  simp only [zr_J1]
  rfl
theorem zr_E3_2 (tb : Nat → Nat × Nat × Nat) : zr_E 3 tb 4 2 = (zr_J (zr_J (tb 2) (tb 6)) (zr_J (tb 10) (tb 14))) := rfl
theorem zr_M3_2 (T V : Nat → Nat) (f : Nat) : (zr_E 3 (zr_t T V f 8) 4 2).1 = (min (min (zr_C T V f 2) (zr_C T V f 6)) (min (zr_C T V f 10) (zr_C T V f 14))) := by
  rw [zr_E3_2]
  simp only [zr_J1]
  rfl
theorem zr_E3_3 (tb : Nat → Nat × Nat × Nat) : zr_E 3 tb 4 3 = (zr_J (zr_J (tb 3) (tb 7)) (zr_J (tb 11) (tb 15))) := rfl
theorem zr_M3_3 (T V : Nat → Nat) (f : Nat) : (zr_E 3 (zr_t T V f 8) 4 3).1 = (min (min 1000000 1000000) (min 1000000 1000000)) := by
  rw [zr_E3_3]
  simp only [zr_J1]
  rfl
theorem zr_E10_2 (tb : Nat → Nat × Nat × Nat) : zr_E 10 tb 4 2 = (zr_J (zr_J (tb 2) (tb 3)) (zr_J (tb 6) (tb 7))) := rfl
theorem zr_M10_2 (T V : Nat → Nat) (f : Nat) : (zr_E 10 (zr_t T V f 8) 4 2).1 = (min (min (zr_C T V f 2) 1000000) (min (zr_C T V f 6) 1000000)) := by
  rw [zr_E10_2]
  simp only [zr_J1]
  rfl
theorem zr_E10_8 (tb : Nat → Nat × Nat × Nat) : zr_E 10 tb 4 8 = (zr_J (zr_J (tb 8) (tb 9)) (zr_J (tb 12) (tb 13))) := rfl
theorem zr_M10_8 (T V : Nat → Nat) (f : Nat) : (zr_E 10 (zr_t T V f 8) 4 8).1 = (min (min (zr_C T V f 8) 1000000) (min (zr_C T V f 12) 1000000)) := by
  rw [zr_E10_8]
  simp only [zr_J1]
  rfl
theorem zr_Jl {x y : Nat × Nat × Nat} (h : x.1 < y.1) : zr_J x y = x := by
  unfold zr_J
  rw [if_neg (by omega), if_neg (by omega)]
theorem zr_Jr {x y : Nat × Nat × Nat} (h : y.1 < x.1) : zr_J x y = y := by
  unfold zr_J
  rw [if_pos h]
/-- one mask is the best -/
theorem zr_best10 (T V : Nat → Nat) (f : Nat) (h10 : zr_C T V f 10 < 1000000) (h : ∀ m, m < 16 → m % 2 = 0 → m ≠ 10 → zr_C T V f 10 < zr_C T V f m) : zr_E 0 (zr_t T V f 8) 4 0 = (zr_C T V f 10, 10, 1) := by
  have k : ∀ m, m < 16 → m ≠ 10 → (zr_t T V f 8 10).1 < (zr_t T V f 8 m).1 := by
    intro m hm ne
    show zr_C T V f 10 < if m % 2 = 1 then 1000000 else zr_C T V f m
    by_cases o : m % 2 = 1
    · rw [if_pos o]
      exact h10
    · rw [if_neg o]
      exact h m hm (by omega) ne
  have kJ : ∀ x y : Nat × Nat × Nat, (zr_t T V f 8 10).1 < x.1 → (zr_t T V f 8 10).1 < y.1 → (zr_t T V f 8 10).1 < (zr_J x y).1 := by
    intro x y hx hy
    rw [zr_J1]
    omega
  have K : ∀ m n, m < 16 → n < 16 → m ≠ 10 → n ≠ 10 → (zr_t T V f 8 10).1 < (zr_J (zr_t T V f 8 m) (zr_t T V f 8 n)).1 := fun m n a b c d => kJ _ _ (k m a c) (k n b d)
  rw [zr_E0_0, zr_Jl (x := zr_t T V f 8 10) (k 11 (by omega) (by omega)), zr_Jr (y := zr_t T V f 8 10) (K 8 9 (by omega) (by omega) (by omega) (by omega)),
    zr_Jl (x := zr_t T V f 8 10) (kJ _ _ (K 12 13 (by omega) (by omega) (by omega) (by omega)) (K 14 15 (by omega) (by omega) (by omega) (by omega))),
    zr_Jr (y := zr_t T V f 8 10) (kJ _ _ (kJ _ _ (K 0 1 (by omega) (by omega) (by omega) (by omega)) (K 2 3 (by omega) (by omega) (by omega) (by omega))) (kJ _ _ (K 4 5 (by omega) (by omega) (by omega) (by omega)) (K 6 7 (by omega) (by omega) (by omega) (by omega))))]
  rfl
/-- all masks cost nothing -/
theorem zr_all0 (T V : Nat → Nat) (f : Nat) (h : ∀ m, m < 16 → m % 2 = 0 → zr_C T V f m = 0) : zr_E 0 (zr_t T V f 8) 4 0 = (0, 0, 8) := by
  have k : ∀ m, m < 16 → zr_t T V f 8 m = (if m % 2 = 1 then 1000000 else 0, m, 1) := by
    intro m hm
    show (if m % 2 = 1 then 1000000 else zr_C T V f m, m, 1) = _
    by_cases o : m % 2 = 1
    · rw [if_pos o, if_pos o]
    · rw [if_neg o, if_neg o, h m hm (by omega)]
  rw [zr_E0_0]
  rw [k 0 (by omega), k 1 (by omega), k 2 (by omega), k 3 (by omega), k 4 (by omega), k 5 (by omega), k 6 (by omega), k 7 (by omega), k 8 (by omega), k 9 (by omega), k 10 (by omega), k 11 (by omega), k 12 (by omega), k 13 (by omega), k 14 (by omega), k 15 (by omega)]
  rfl
/-! four reads a, b, a, b of the same trust -/
theorem zr_cc0 (w a b : Nat) : zr_C (fun _ => w) (zr_V a b) 0 0 = 2 * (w * zr_d a b) := zr_C0 zr_u0
theorem zr_cc2 (w a b : Nat) : zr_C (fun _ => w) (zr_V a b) 0 2 = 1 * (w * zr_d a b) := zr_C0 zr_u2
theorem zr_cc4 (w a b : Nat) : zr_C (fun _ => w) (zr_V a b) 0 4 = 1 * (w * zr_d a b) := zr_C0 zr_u4
theorem zr_cc6 (w a b : Nat) : zr_C (fun _ => w) (zr_V a b) 0 6 = 2 * (w * zr_d a b) := zr_C0 zr_u6
theorem zr_cc8 (w a b : Nat) : zr_C (fun _ => w) (zr_V a b) 0 8 = 1 * (w * zr_d a b) := zr_C0 zr_u8
theorem zr_cc10 (w a b : Nat) : zr_C (fun _ => w) (zr_V a b) 0 10 = 0 * (w * zr_d a b) := zr_C0 zr_u10
theorem zr_cc12 (w a b : Nat) : zr_C (fun _ => w) (zr_V a b) 0 12 = 2 * (w * zr_d a b) := zr_C0 zr_u12
theorem zr_cc14 (w a b : Nat) : zr_C (fun _ => w) (zr_V a b) 0 14 = 1 * (w * zr_d a b) := zr_C0 zr_u14
theorem zr_g0 (w a b : Nat) : zr_C (fun _ => w) (zr_V a b) 1 0 = 0 * (w * (8 - zr_d a b)) + 2 * (w * zr_d a b) := zr_C1 zr_w0
theorem zr_g2 (w a b : Nat) : zr_C (fun _ => w) (zr_V a b) 1 2 = 1 * (w * (8 - zr_d a b)) + 1 * (w * zr_d a b) := zr_C1 zr_w2
theorem zr_g4 (w a b : Nat) : zr_C (fun _ => w) (zr_V a b) 1 4 = 1 * (w * (8 - zr_d a b)) + 1 * (w * zr_d a b) := zr_C1 zr_w4
theorem zr_g6 (w a b : Nat) : zr_C (fun _ => w) (zr_V a b) 1 6 = 2 * (w * (8 - zr_d a b)) + 2 * (w * zr_d a b) := zr_C1 zr_w6
theorem zr_g8 (w a b : Nat) : zr_C (fun _ => w) (zr_V a b) 1 8 = 1 * (w * (8 - zr_d a b)) + 1 * (w * zr_d a b) := zr_C1 zr_w8
theorem zr_g10 (w a b : Nat) : zr_C (fun _ => w) (zr_V a b) 1 10 = 2 * (w * (8 - zr_d a b)) + 0 * (w * zr_d a b) := zr_C1 zr_w10
theorem zr_g12 (w a b : Nat) : zr_C (fun _ => w) (zr_V a b) 1 12 = 2 * (w * (8 - zr_d a b)) + 2 * (w * zr_d a b) := zr_C1 zr_w12
theorem zr_g14 (w a b : Nat) : zr_C (fun _ => w) (zr_V a b) 1 14 = 1 * (w * (8 - zr_d a b)) + 1 * (w * zr_d a b) := zr_C1 zr_w14
theorem zr_wd {w d : Nat} (hw : w ≤ 9) (hd : d ≤ 8) : w * d ≤ 72 := Nat.mul_le_mul hw hd
theorem zr_pLeast (w a b : Nat) : (zr_E 0 (zr_t (fun _ => w) (zr_V a b) 0 8) 4 0).1 = 0 := by
  rw [zr_M0_0]
  rw [zr_cc0, zr_cc2, zr_cc4, zr_cc6, zr_cc8, zr_cc10, zr_cc12, zr_cc14]
  omega
theorem zr_pTab (w a b : Nat) (hw : 1 ≤ w) : zr_E 0 (zr_t (fun _ => w) (zr_V a b) 0 8) 4 0 = if zr_d a b = 0 then (0, 0, 8) else (0, 10, 1) := by
  by_cases e : zr_d a b = 0
  · rw [if_pos e]
    refine zr_all0 _ _ _ (fun m hm he => ?_)
    rcases (show m = 0 ∨ m = 2 ∨ m = 4 ∨ m = 6 ∨ m = 8 ∨ m = 10 ∨ m = 12 ∨ m = 14 by omega) with rfl | rfl | rfl | rfl | rfl | rfl | rfl | rfl
    · rw [zr_cc0, e]; omega
    · rw [zr_cc2, e]; omega
    · rw [zr_cc4, e]; omega
    · rw [zr_cc6, e]; omega
    · rw [zr_cc8, e]; omega
    · rw [zr_cc10, e]; omega
    · rw [zr_cc12, e]; omega
    · rw [zr_cc14, e]; omega
  · rw [if_neg e]
    have hX : 0 < w * zr_d a b := Nat.mul_pos hw (by omega)
    rw [zr_best10 _ _ _ (by rw [zr_cc10]; omega) (fun m hm he ne => ?_)]
    · rw [zr_cc10, Nat.zero_mul]
    · rw [zr_cc10]
      rcases (show m = 0 ∨ m = 2 ∨ m = 4 ∨ m = 6 ∨ m = 8 ∨ m = 12 ∨ m = 14 by omega) with rfl | rfl | rfl | rfl | rfl | rfl | rfl
      · rw [zr_cc0]; omega
      · rw [zr_cc2]; omega
      · rw [zr_cc4]; omega
      · rw [zr_cc6]; omega
      · rw [zr_cc8]; omega
      · rw [zr_cc12]; omega
      · rw [zr_cc14]; omega
theorem zr_pForced (w a b : Nat) (hw : w ≤ 9) : (zr_E 0 (zr_t (fun _ => w) (zr_V a b) 1 8) 4 0).1 = 2 * w * (if 8 - zr_d a b ≤ zr_d a b then 8 - zr_d a b else zr_d a b) := by
  have hd := zr_d8 a b
  rw [zr_M0_0]
  rw [zr_g0, zr_g2, zr_g4, zr_g6, zr_g8, zr_g10, zr_g12, zr_g14]
  generalize zr_d a b = d at *
  rcases (show d = 0 ∨ d = 1 ∨ d = 2 ∨ d = 3 ∨ d = 4 ∨ d = 5 ∨ d = 6 ∨ d = 7 ∨ d = 8 by omega) with rfl | rfl | rfl | rfl | rfl | rfl | rfl | rfl | rfl <;> simp <;> omega
theorem zr_l020 : ∀ m, m < 256 → (zr_el (2 ^ 0) (2 ^ 2) 0 m = true ↔ (m = 0 ∨ m = 5)) := by decide +kernel
theorem zr_l011 : ∀ m, m < 256 → (zr_el (2 ^ 0) (2 ^ 1) 1 m = true ↔ (m = 1 ∨ m = 2)) := by decide +kernel
theorem zr_l131 : ∀ m, m < 256 → (zr_el (2 ^ 1) (2 ^ 3) 1 m = true ↔ (m = 2 ∨ m = 8)) := by decide +kernel
theorem zr_l010 : ∀ m, m < 256 → (zr_el (2 ^ 0) (2 ^ 1) 0 m = true ↔ (m = 0 ∨ m = 3)) := by decide +kernel
theorem zr_pW020 (w a b L : Nat) (hw : w ≤ 9) (l1 : ∀ m, m < 256 → zr_el (2 ^ 0) (2 ^ 2) 0 m = true → L ≤ (zr_E 5 (zr_t (fun _ => w) (zr_V a b) 0 8) 4 m).1) (l2 : L = 1000000 ∨ ∃ m, m < 256 ∧ zr_el (2 ^ 0) (2 ^ 2) 0 m = true ∧ L = (zr_E 5 (zr_t (fun _ => w) (zr_V a b) 0 8) 4 m).1) : L = 0 := by
  have hX := zr_wd hw (zr_d8 a b)
  have p1 := l1 0 (by omega) ((zr_l020 0 (by omega)).mpr (Or.inl rfl))
  have p2 := l1 5 (by omega) ((zr_l020 5 (by omega)).mpr (Or.inr rfl))
  have p3 : L = 1000000 ∨ L = (zr_E 5 (zr_t (fun _ => w) (zr_V a b) 0 8) 4 0).1 ∨ L = (zr_E 5 (zr_t (fun _ => w) (zr_V a b) 0 8) 4 5).1 := by
    rcases l2 with z | ⟨m, z1, z2, z3⟩
    · exact Or.inl z
    · rcases (zr_l020 m z1).mp z2 with e | e
      · rw [e] at z3
        exact Or.inr (Or.inl z3)
      · rw [e] at z3
        exact Or.inr (Or.inr z3)
  rw [zr_M5_0] at p1 p3
  rw [zr_M5_5] at p2 p3
  simp only [zr_cc0, zr_cc2, zr_cc4, zr_cc6, zr_cc8, zr_cc10, zr_cc12, zr_cc14] at p1 p2 p3
  omega
theorem zr_pW011 (w a b L : Nat) (hw : w ≤ 9) (l1 : ∀ m, m < 256 → zr_el (2 ^ 0) (2 ^ 1) 1 m = true → L ≤ (zr_E 3 (zr_t (fun _ => w) (zr_V a b) 0 8) 4 m).1) (l2 : L = 1000000 ∨ ∃ m, m < 256 ∧ zr_el (2 ^ 0) (2 ^ 1) 1 m = true ∧ L = (zr_E 3 (zr_t (fun _ => w) (zr_V a b) 0 8) 4 m).1) : L = 0 := by
  have hX := zr_wd hw (zr_d8 a b)
  have p1 := l1 1 (by omega) ((zr_l011 1 (by omega)).mpr (Or.inl rfl))
  have p2 := l1 2 (by omega) ((zr_l011 2 (by omega)).mpr (Or.inr rfl))
  have p3 : L = 1000000 ∨ L = (zr_E 3 (zr_t (fun _ => w) (zr_V a b) 0 8) 4 1).1 ∨ L = (zr_E 3 (zr_t (fun _ => w) (zr_V a b) 0 8) 4 2).1 := by
    rcases l2 with z | ⟨m, z1, z2, z3⟩
    · exact Or.inl z
    · rcases (zr_l011 m z1).mp z2 with e | e
      · rw [e] at z3
        exact Or.inr (Or.inl z3)
      · rw [e] at z3
        exact Or.inr (Or.inr z3)
  rw [zr_M3_1] at p1 p3
  rw [zr_M3_2] at p2 p3
  simp only [zr_cc0, zr_cc2, zr_cc4, zr_cc6, zr_cc8, zr_cc10, zr_cc12, zr_cc14] at p1 p2 p3
  omega
theorem zr_pW131 (w a b L : Nat) (hw : w ≤ 9) (l1 : ∀ m, m < 256 → zr_el (2 ^ 1) (2 ^ 3) 1 m = true → L ≤ (zr_E 10 (zr_t (fun _ => w) (zr_V a b) 0 8) 4 m).1) (l2 : L = 1000000 ∨ ∃ m, m < 256 ∧ zr_el (2 ^ 1) (2 ^ 3) 1 m = true ∧ L = (zr_E 10 (zr_t (fun _ => w) (zr_V a b) 0 8) 4 m).1) : L = w * zr_d a b := by
  have hX := zr_wd hw (zr_d8 a b)
  have p1 := l1 2 (by omega) ((zr_l131 2 (by omega)).mpr (Or.inl rfl))
  have p2 := l1 8 (by omega) ((zr_l131 8 (by omega)).mpr (Or.inr rfl))
  have p3 : L = 1000000 ∨ L = (zr_E 10 (zr_t (fun _ => w) (zr_V a b) 0 8) 4 2).1 ∨ L = (zr_E 10 (zr_t (fun _ => w) (zr_V a b) 0 8) 4 8).1 := by
    rcases l2 with z | ⟨m, z1, z2, z3⟩
    · exact Or.inl z
    · rcases (zr_l131 m z1).mp z2 with e | e
      · rw [e] at z3
        exact Or.inr (Or.inl z3)
      · rw [e] at z3
        exact Or.inr (Or.inr z3)
  rw [zr_M10_2] at p1 p3
  rw [zr_M10_8] at p2 p3
  simp only [zr_cc0, zr_cc2, zr_cc4, zr_cc6, zr_cc8, zr_cc10, zr_cc12, zr_cc14] at p1 p2 p3
  omega
theorem zr_pW010 (w a b L : Nat) (hw : w ≤ 9) (l1 : ∀ m, m < 256 → zr_el (2 ^ 0) (2 ^ 1) 0 m = true → L ≤ (zr_E 3 (zr_t (fun _ => w) (zr_V a b) 0 8) 4 m).1) (l2 : L = 1000000 ∨ ∃ m, m < 256 ∧ zr_el (2 ^ 0) (2 ^ 1) 0 m = true ∧ L = (zr_E 3 (zr_t (fun _ => w) (zr_V a b) 0 8) 4 m).1) : L = w * zr_d a b := by
  have hX := zr_wd hw (zr_d8 a b)
  have p1 := l1 0 (by omega) ((zr_l010 0 (by omega)).mpr (Or.inl rfl))
  have p2 := l1 3 (by omega) ((zr_l010 3 (by omega)).mpr (Or.inr rfl))
  have p3 : L = 1000000 ∨ L = (zr_E 3 (zr_t (fun _ => w) (zr_V a b) 0 8) 4 0).1 ∨ L = (zr_E 3 (zr_t (fun _ => w) (zr_V a b) 0 8) 4 3).1 := by
    rcases l2 with z | ⟨m, z1, z2, z3⟩
    · exact Or.inl z
    · rcases (zr_l010 m z1).mp z2 with e | e
      · rw [e] at z3
        exact Or.inr (Or.inl z3)
      · rw [e] at z3
        exact Or.inr (Or.inr z3)
  rw [zr_M3_0] at p1 p3
  rw [zr_M3_3] at p2 p3
  simp only [zr_cc0, zr_cc2, zr_cc4, zr_cc6, zr_cc8, zr_cc10, zr_cc12, zr_cc14] at p1 p2 p3
  omega
/-! read 3 says otherwise at site p -/
def zr_T1 (w u p j : Nat) : Nat := if j = 24 + p then u else w
def zr_V1 (a b p j : Nat) : Nat := if j = 24 + p then 1 - b / 2 ^ p % 2 else zr_V a b j
theorem zr_sc1 {w u p a b m s : Nat} (hs : s < 8) (hp : p < 8) (ne : s ≠ p) : zr_sc (zr_T1 w u p) (zr_V1 a b p) 0 s m = zr_sc (fun _ => w) (zr_V a b) 0 s m := by
  have t : ∀ r, r < 4 → zr_T1 w u p (r * 8 + s) = w := fun r hr => if_neg (by omega)
  have v : ∀ r, r < 4 → zr_V1 a b p (r * 8 + s) = zr_V a b (r * 8 + s) := fun r hr => if_neg (by omega)
  rw [zr_scv, zr_scv, t 0 (by omega), t 1 (by omega), t 2 (by omega), t 3 (by omega), v 0 (by omega), v 1 (by omega), v 2 (by omega), v 3 (by omega)]
theorem zr_sc2 {w u p a b m : Nat} (hp : p < 8) : zr_sc (zr_T1 w u p) (zr_V1 a b p) 0 p m = zr_sv 0 m w w w u (a / 2 ^ p % 2) (b / 2 ^ p % 2) (a / 2 ^ p % 2) (1 - b / 2 ^ p % 2) := by
  have t : ∀ r, r < 3 → zr_T1 w u p (r * 8 + p) = w := fun r hr => if_neg (by omega)
  have v : ∀ r, r < 3 → zr_V1 a b p (r * 8 + p) = zr_V a b (r * 8 + p) := fun r hr => if_neg (by omega)
  have t3 : zr_T1 w u p (3 * 8 + p) = u := if_pos (by omega)
  have v3 : zr_V1 a b p (3 * 8 + p) = 1 - b / 2 ^ p % 2 := if_pos (by omega)
  obtain ⟨x0, x1, x2, _⟩ := zr_Vs a b p hp
  rw [zr_scv, t 0 (by omega), t 1 (by omega), t 2 (by omega), t3, v 0 (by omega), v 1 (by omega), v 2 (by omega), v3, x0, x1, x2]
theorem zr_q10 {w u p a b : Nat} (hp : p < 8) : zr_C (zr_T1 w u p) (zr_V1 a b p) 0 10 = min w u := by
  unfold zr_C
  rw [zr_sum_one (p := p) 8 (fun i hi ne => by
    show zr_sc (zr_T1 w u p) (zr_V1 a b p) 0 i 10 = 0
    rw [zr_sc1 hi hp ne, zr_sc0 hi, zr_u10 _ _ (Nat.mod_lt _ (by omega)) (Nat.mod_lt _ (by omega)), Nat.zero_mul]), if_pos hp, zr_sc2 hp, zr_v10 _ _ (Nat.mod_lt _ (by omega)) (Nat.mod_lt _ (by omega))]
theorem zr_qge {w u p a b k m : Nat} (hp : p < 8) (hk1 : 1 ≤ k) (hk : ∀ α β, α < 2 → β < 2 → zr_sv 0 m w w w w α β α β = k * (w * ((α + β) % 2))) : w * zr_d a b ≤ zr_C (zr_T1 w u p) (zr_V1 a b p) 0 m + w := by
  have h := zr_sum_ge (x := fun i => w * ((a ^^^ b) / 2 ^ i % 2)) (g := fun i => zr_sc (zr_T1 w u p) (zr_V1 a b p) 0 i m) (p := p) (w := w) (by
    show w * ((a ^^^ b) / 2 ^ p % 2) ≤ w
    exact Nat.le_trans (Nat.mul_le_mul_left w (zr_e1 a b p)) (by omega)) 8 (fun i hi ne => by
    show w * ((a ^^^ b) / 2 ^ i % 2) ≤ zr_sc (zr_T1 w u p) (zr_V1 a b p) 0 i m
    rw [zr_sc1 hi hp ne, zr_sc0 hi, hk _ _ (Nat.mod_lt _ (by omega)) (Nat.mod_lt _ (by omega)), zr_xor]
    exact Nat.le_mul_of_pos_left _ hk1)
  rw [if_pos hp, zr_sum_mul w (fun i => (a ^^^ b) / 2 ^ i % 2)] at h
  exact h
theorem zr_q8 {w u p a b : Nat} (hp : p < 8) (hd : zr_d a b = 0) : zr_C (zr_T1 w u p) (zr_V1 a b p) 0 8 = 0 := by
  have e := zr_sum_zero 8 hd
  unfold zr_C
  have h : ∀ i, i < 8 → zr_sc (zr_T1 w u p) (zr_V1 a b p) 0 i 8 = 0 := by
    intro i hi
    have ei : (a ^^^ b) / 2 ^ i % 2 = 0 := e i hi
    by_cases c : i = p
    · subst c
      rw [← zr_xor] at ei
      rw [zr_sc2 hi, show b / 2 ^ i % 2 = a / 2 ^ i % 2 by omega, zr_v8 _ (Nat.mod_lt _ (by omega))]
    · rw [zr_sc1 hi hp c, zr_sc0 hi, zr_u8 _ _ (Nat.mod_lt _ (by omega)) (Nat.mod_lt _ (by omega)), zr_xor, ei, Nat.mul_zero, Nat.mul_zero]
  rw [zr_sum_eq (g := fun _ => 0) 8 h]
  rfl
theorem zr_rLeast0 {w u p a b : Nat} (hp : p < 8) (hd : zr_d a b = 0) : (zr_E 0 (zr_t (zr_T1 w u p) (zr_V1 a b p) 0 8) 4 0).1 = 0 := by
  rw [zr_M0_0, zr_q8 hp hd]
  omega
theorem zr_rTab {w u p a b : Nat} (hw1 : 1 ≤ w) (hw : w ≤ 9) (hp : p < 8) (hd : 2 < zr_d a b) : zr_E 0 (zr_t (zr_T1 w u p) (zr_V1 a b p) 0 8) 4 0 = (min w u, 10, 1) := by
  have hX : w * 3 ≤ w * zr_d a b := Nat.mul_le_mul_left w hd
  rw [zr_best10 _ _ _ (by rw [zr_q10 hp]; omega) (fun m hm he ne => ?_)]
  · rw [zr_q10 hp]
  · rw [zr_q10 hp]
    rcases (show m = 0 ∨ m = 2 ∨ m = 4 ∨ m = 6 ∨ m = 8 ∨ m = 12 ∨ m = 14 by omega) with rfl | rfl | rfl | rfl | rfl | rfl | rfl
    · have := zr_qge (u := u) (a := a) (b := b) (w := w) hp (by omega) zr_u0; omega
    · have := zr_qge (u := u) (a := a) (b := b) (w := w) hp (by omega) zr_u2; omega
    · have := zr_qge (u := u) (a := a) (b := b) (w := w) hp (by omega) zr_u4; omega
    · have := zr_qge (u := u) (a := a) (b := b) (w := w) hp (by omega) zr_u6; omega
    · have := zr_qge (u := u) (a := a) (b := b) (w := w) hp (by omega) zr_u8; omega
    · have := zr_qge (u := u) (a := a) (b := b) (w := w) hp (by omega) zr_u12; omega
    · have := zr_qge (u := u) (a := a) (b := b) (w := w) hp (by omega) zr_u14; omega
end
section
/-! the law, its printed pieces from the last one -/
theorem zr_V2 (a b j : Nat) : zr_V a b j < 2 := by
  unfold zr_V
  split <;> exact Nat.mod_lt _ (by omega)
theorem zr_D0 {w a b : Nat} {a1 a2 : Nat → Int32} (hw1 : 1 ≤ w) (hw9 : w ≤ 9) (h : ∀ j, j < 32 → a1 j = nI w ∧ a2 j = nI (zr_V a b j)) : zr_D (fun _ => w) (zr_V a b) a1 a2 :=
  fun i hi => ⟨(h i hi).1, (h i hi).2, hw1, hw9, zr_V2 a b i⟩
theorem zr_inv : ∀ a, a < 256 → (255 : Int32) &&& (nI a ^^^ (-1)) = nI (255 - a) := by decide +kernel
theorem zr_flip : ∀ o, o < 2 → (1 - nI o) &&& 1 = nI (1 - o) := by decide +kernel
theorem zr_nx (a b : Nat) : nI a ^^^ nI b = nI (a ^^^ b) := by
  apply Int32.toBitVec_inj.1
  show BitVec.ofNat 32 a ^^^ BitVec.ofNat 32 b = BitVec.ofNat 32 (a ^^^ b)
  apply BitVec.eq_of_getLsbD_eq
  intro i hi
  simp [hi]
theorem zr_l398 {post : Int32 → St0 → Prop} {mc ms kc ks : Nat} {a b w p : Nat} {aw g0 g1 g2 g3 : Int32} {a1 a2 a3 a4 a5 : Nat → Int32} (hp1 : post 1 ()) (ha : a < 256) (hw1 : 1 ≤ w) (hw9 : w ≤ 9) (hp : p < 8)
    (h : ∀ j, j < 32 → j ≠ 24 + p → a1 j = nI w ∧ a2 j = nI (zr_V a b j)) :
    wL_lawOf_398 post mc ms (nI a) (nI w) (nI p) (nI (b / 2 ^ p % 2)) kc ks (nI 4) aw g0 g1 g2 g3 a1 a2 a3 a4 a5 := by
  have ev : zr_V a b (3 * 8 + p) = b / 2 ^ p % 2 := (zr_Vs a b p hp).2.2.2
  unfold wL_lawOf_398
  refine zr_say (R := 4) (r := 3) (s := p) (t := w) (by omega) (by omega) hp hw9 rfl rfl rfl ?_
  refine zr_stretch (R := 4) (w := w) (v := fun i => (255 - a) / 2 ^ i % 2) (by omega) hw1 hw9 rfl (fun i hi => ?_) (fun b1 b2 hb hb' => ?_)
  · rw [zr_inv a ha]
    exact ⟨zr_bit _ (by omega) i hi, Nat.mod_lt _ (by omega)⟩
  have h32 : ∀ j, j < 32 → b1 j = nI w ∧ b2 j = nI (zr_V a b j) := by
    intro j hj
    rw [(hb j (by omega)).1, (hb j (by omega)).2]
    by_cases e : j = 3 * 8 + p
    · subst e
      rw [pk_us, pk_us, zr_and1 _ (Nat.mod_lt _ (by omega)), ev]
      exact ⟨rfl, rfl⟩
    · rw [pk_un e, pk_un e]
      exact h j hj (by omega)
  refine zr_cover hp (fun i hi => ⟨w, hw1, hw9, ?_⟩) (br_t rfl ?_)
  · by_cases e : i = 4
    · subst e
      exact (hb' p hp).1
    · exact (h32 (i * 8 + p) (by omega)).1
  refine zr_drop (br_t rfl ?_)
  exact zr_least (zr_D0 hw1 hw9 h32) (fun aw' h0 h1 h2 h3 b3 b4 b5 => br_t (congrArg nI (zr_pLeast w a b)) hp1)
theorem zr_l383 {post : Int32 → St0 → Prop} {mc ms kc ks : Nat} {a b w p u : Nat} {aw g0 g1 g2 g3 : Int32} {a1 a2 a3 a4 a5 : Nat → Int32} (hp1 : post 1 ()) (ha : a < 256) (hw1 : 1 ≤ w) (hw9 : w ≤ 9) (hp : p < 8)
    (hD : zr_D (zr_T1 w u p) (zr_V1 a b p) a1 a2) :
    wL_lawOf_383 post mc ms (nI a) (nI w) (nI p) (nI (zr_d a b)) (nI (b / 2 ^ p % 2)) kc ks (nI 4) aw g0 g1 g2 g3 a1 a2 a3 a4 a5 := by
  have h : ∀ j, j < 32 → j ≠ 24 + p → a1 j = nI w ∧ a2 j = nI (zr_V a b j) := by
    intro j hj ne
    have q := hD j hj
    have t : zr_T1 w u p j = w := if_neg ne
    have v : zr_V1 a b p j = zr_V a b j := if_neg ne
    rw [t, v] at q
    exact ⟨q.1, q.2.1⟩
  have hd := zr_d8 a b
  unfold wL_lawOf_383
  refine pk_eq (zr_d a b) 0 (fun z => ?_) (fun z => zr_l398 hp1 ha hw1 hw9 hp h)
  exact zr_least hD (fun aw' h0 h1 h2 h3 b3 b4 b5 => br_t (congrArg nI (zr_rLeast0 hp z)) (zr_l398 hp1 ha hw1 hw9 hp h))
theorem zr_l341 {post : Int32 → St0 → Prop} {mc ms kc ks : Nat} {a b w p u : Nat} {aw g0 g1 g2 g3 : Int32} {a1 a2 a3 a4 a5 : Nat → Int32} (hp1 : post 1 ()) (ha : a < 256) (hw1 : 1 ≤ w) (hw9 : w ≤ 9) (hp : p < 8)
    (hD : zr_D (zr_T1 w u p) (zr_V1 a b p) a1 a2) :
    wL_lawOf_341 post mc ms (nI a) (nI w) (nI p) (nI (zr_d a b)) (nI (b / 2 ^ p % 2)) (nI (min w u)) kc ks (nI 4) aw g0 g1 g2 g3 a1 a2 a3 a4 a5 := by
  have hd := zr_d8 a b
  unfold wL_lawOf_341
  refine pk_le (zr_d a b) 2 (fun _ => zr_l383 hp1 ha hw1 hw9 hp hD) (fun z => ?_)
  have tab := zr_rTab (u := u) hw1 hw9 hp z
  refine zr_costOf 10 hD (by omega) (by decide) (fun h0 h1 h2 h3 => br_t (congrArg nI (zr_q10 hp)) ?_)
  refine zr_least hD (fun aw' k0 k1 k2 k3 b3 b4 b5 => br_f ?_ ?_)
  · rw [tab]
    exact nI_nlt (Nat.le_refl _) (by omega)
  · exact zr_sorting hD (fun aw2 l0 l1 l2 l3 c3 c4 c5 => br_t (by rw [tab]; rfl) (zr_l383 hp1 ha hw1 hw9 hp hD))
theorem zr_l260 {post : Int32 → St0 → Prop} {mc ms kc ks : Nat} {a b w p q : Nat} {x2 z2 aw g0 g1 g2 g3 : Int32} {a1 a2 a3 a4 a5 : Nat → Int32} (hp1 : post 1 ()) (ha : a < 256) (hb : b < 256) (hw1 : 1 ≤ w) (hw9 : w ≤ 9) (hp : p < 8)
    (h : ∀ j, j < 32 → a1 j = nI w ∧ a2 j = nI (zr_V a b j)) (ez : z2 = nI (2 * w * q)) :
    wL_lawOf_260 post mc ms x2 (nI a) (nI b) (nI w) (nI p) (nI (zr_d a b)) (nI q) (2 * nI w) z2 kc ks (nI 4) aw g0 g1 g2 g3 a1 a2 a3 a4 a5 := by
  have hD := zr_D0 hw1 hw9 h
  unfold wL_lawOf_260
  refine br_t (by rw [ez, show (2 : Int32) = nI 2 from rfl, pk_mul, pk_mul]) ?_
  refine zr_leastWith 0 1 0 3 hD (by omega) (by omega) (by omega) rfl rfl rfl rfl (fun L aw' h0 h1 h2 h3 b3 b4 b5 l1 l2 => br_t ?_ ⟨by decide, ?_⟩)
  · rw [zr_pW010 w a b L hw9 l1 l2, pk_mul]
  obtain ⟨j, hj, ej⟩ := pk_andE (x2 >>> ((8 : Int32) &&& 31)) (m := 255) 8 (by decide)
  have eu : 1 + (((x2 >>> ((8 : Int32) &&& 31)) &&& 255) - ((x2 >>> ((8 : Int32) &&& 31)) &&& 255) / 9 * 9) = nI (1 + j % 9) := by
    rw [ej, show (9 : Int32) = nI 9 from rfl, pk_rem (by omega) (by omega) (by omega), show (1 : Int32) = nI 1 from rfl, nI_add]
  have hu : 1 ≤ 1 + j % 9 ∧ 1 + j % 9 ≤ 9 := by omega
  refine nm_r eu (nm_r (zr_bit b hb p hp) ?_)
  generalize 1 + j % 9 = u at hu
  refine zr_say (R := 4) (r := 3) (s := p) (t := u) (by omega) (by omega) hp hu.2 rfl rfl rfl ?_
  refine br_t (h (3 * 8 + p) (by omega)).1 ?_
  have ob : b / 2 ^ p % 2 < 2 := Nat.mod_lt _ (by omega)
  have hD1 : zr_D (zr_T1 w u p) (zr_V1 a b p) (upd a1 (3 * 8 + p) (nI u)) (upd a2 (3 * 8 + p) ((1 - nI (b / 2 ^ p % 2)) &&& 1)) := by
    intro i hi
    by_cases e : i = 3 * 8 + p
    · subst e
      have t : zr_T1 w u p (3 * 8 + p) = u := if_pos (by omega)
      have v : zr_V1 a b p (3 * 8 + p) = 1 - b / 2 ^ p % 2 := if_pos (by omega)
      rw [pk_us, pk_us, zr_flip _ ob, t, v]
      exact ⟨rfl, rfl, hu.1, hu.2, by omega⟩
    · have t : zr_T1 w u p i = w := if_neg (by omega)
      have v : zr_V1 a b p i = zr_V a b i := if_neg (by omega)
      rw [pk_un e, pk_un e, t, v]
      exact hD i hi
  refine pk_le w u (fun z => ?_) (fun z => ?_)
  · have g := zr_l341 (post := post) (mc := mc) (ms := ms) (kc := kc) (ks := ks) (aw := aw') (g0 := h0) (g1 := h1) (g2 := h2) (g3 := h3) (a3 := b3) (a4 := b4) (a5 := b5) hp1 ha hw1 hw9 hp hD1
    rw [Nat.min_eq_left z] at g
    exact g
  · have g := zr_l341 (post := post) (mc := mc) (ms := ms) (kc := kc) (ks := ks) (aw := aw') (g0 := h0) (g1 := h1) (g2 := h2) (g3 := h3) (a3 := b3) (a4 := b4) (a5 := b5) hp1 ha hw1 hw9 hp hD1
    rw [Nat.min_eq_right (by omega)] at g
    exact g
theorem zr_l188 {post : Int32 → St0 → Prop} {mc ms kc ks : Nat} {a b w p : Nat} {x2 z0 z1 aw g0 g1 g2 g3 : Int32} {a1 a2 a3 a4 a5 : Nat → Int32} (hp1 : post 1 ()) (ha : a < 256) (hb : b < 256) (hw1 : 1 ≤ w) (hw9 : w ≤ 9) (hp : p < 8)
    (h : ∀ j, j < 32 → a1 j = nI w ∧ a2 j = nI (zr_V a b j)) (ez : z1 = z0) :
    wL_lawOf_188 post mc ms x2 (nI a) (nI b) (nI w) (nI p) (nI (zr_d a b)) z0 z1 kc ks (nI 4) aw g0 g1 g2 g3 a1 a2 a3 a4 a5 := by
  have hD := zr_D0 hw1 hw9 h
  have hd := zr_d8 a b
  unfold wL_lawOf_188
  refine br_t ez ?_
  refine zr_leastWith 0 2 0 5 hD (by omega) (by omega) (by omega) rfl rfl rfl rfl (fun L aw' h0 h1 h2 h3 b3 b4 b5 l1 l2 => br_t (congrArg nI (zr_pW020 w a b L hw9 l1 l2)) ?_)
  refine zr_leastWith 0 1 1 3 hD (by omega) (by omega) (by omega) rfl rfl rfl rfl (fun L aw' h0 h1 h2 h3 b3 b4 b5 l1 l2 => br_t (congrArg nI (zr_pW011 w a b L hw9 l1 l2)) ?_)
  refine zr_leastWith 1 3 1 10 hD (by omega) (by omega) (by omega) rfl rfl rfl rfl (fun L aw' h0 h1 h2 h3 b3 b4 b5 l1 l2 => br_t ?_ ?_)
  · rw [zr_pW131 w a b L hw9 l1 l2, pk_mul]
  refine zr_forced hD (fun aw2 k0 k1 k2 k3 c3 c4 c5 => ?_)
  have e8 : 8 - nI (zr_d a b) = nI (8 - zr_d a b) := by
    rw [show (8 : Int32) = nI 8 from rfl, pk_sub hd]
  refine pk_le (8 - zr_d a b) (zr_d a b) (fun z => ?_) (fun z => ?_) e8 rfl (by omega) (by omega)
  · rw [e8]
    exact zr_l260 hp1 ha hb hw1 hw9 hp h (by rw [zr_pForced w a b hw9, if_pos z])
  · exact zr_l260 hp1 ha hb hw1 hw9 hp h (by rw [zr_pForced w a b hw9, if_neg (by omega)])
theorem zr_l167 {post : Int32 → St0 → Prop} {mc ms kc ks : Nat} {a b w p : Nat} {x2 z0 z1 aw g0 g1 g2 g3 : Int32} {a1 a2 a3 a4 a5 : Nat → Int32} (hp1 : post 1 ()) (ha : a < 256) (hb : b < 256) (hw1 : 1 ≤ w) (hw9 : w ≤ 9) (hp : p < 8)
    (h : ∀ j, j < 32 → a1 j = nI w ∧ a2 j = nI (zr_V a b j)) (ez : z1 = z0) :
    wL_lawOf_167 post mc ms x2 (nI a) (nI b) (nI w) (nI p) (nI (zr_d a b)) z0 z1 kc ks (nI 4) aw g0 g1 g2 g3 a1 a2 a3 a4 a5 := by
  have hD := zr_D0 hw1 hw9 h
  have hd := zr_d8 a b
  have tab := zr_pTab w a b hw1
  unfold wL_lawOf_167
  refine br_t ez (zr_sorting hD (fun aw' h0 h1 h2 h3 b3 b4 b5 => ?_))
  refine pk_eq (zr_d a b) 0 (fun z => ?_) (fun z => ?_)
  · exact zr_l188 hp1 ha hb hw1 hw9 hp h (by rw [tab, if_pos z]; rfl)
  · exact zr_l188 hp1 ha hb hw1 hw9 hp h (by rw [tab, if_neg z]; rfl)
end
section
/-! the owed statement -/
theorem zr_main {post : Int32 → St0 → Prop} (hp1 : post 1 ()) (p0 p1 p2 p3 : Int32) : wpL_lawOf post 600000 7302250 () p0 p1 p2 p3 := by
  obtain ⟨a, ha, ea⟩ := pk_andE p0 (m := 255) 8 (by decide)
  obtain ⟨b, hb, eb⟩ := pk_andE p1 (m := 255) 8 (by decide)
  obtain ⟨j3, hj3, e3⟩ := pk_andE p3 (m := 2147483647) 31 (by decide)
  obtain ⟨j2, hj2, e2⟩ := pk_andE p2 (m := 2147483647) 31 (by decide)
  have ew : 1 + ((p3 &&& 2147483647) - (p3 &&& 2147483647) / 9 * 9) = nI (1 + j3 % 9) := by
    rw [e3, show (9 : Int32) = nI 9 from rfl, pk_rem hj3 (by omega) (by omega), show (1 : Int32) = nI 1 from rfl, nI_add]
  have ep : (p2 &&& 2147483647) - (p2 &&& 2147483647) / 8 * 8 = nI (j2 % 8) := by
    rw [e2, show (8 : Int32) = nI 8 from rfl, pk_rem hj2 (by omega) (by omega)]
  have hw1 : 1 ≤ 1 + j3 % 9 := by omega
  have hw9 : 1 + j3 % 9 ≤ 9 := by omega
  have hp : j2 % 8 < 8 := by omega
  generalize 1 + j3 % 9 = w at ew hw1 hw9
  generalize j2 % 8 = p at ep hp
  unfold wpL_lawOf
  refine ⟨by omega, by omega, 5, 896, by omega, by omega, ?_⟩
  refine ⟨by omega, by omega, by omega, by omega, by omega, by omega, by omega, by omega, by omega, by omega, ?_⟩
  refine nm_r ea (nm_r eb ⟨by decide, nm_r ew ⟨by decide, nm_r ep ?_⟩⟩)
  have va : ∀ i, i < 8 → ((nI a >>> (nI i &&& 31)) &&& 1) = nI (a / 2 ^ i % 2) ∧ a / 2 ^ i % 2 < 2 := fun i hi => ⟨zr_bit a ha i hi, Nat.mod_lt _ (by omega)⟩
  have vb : ∀ i, i < 8 → ((nI b >>> (nI i &&& 31)) &&& 1) = nI (b / 2 ^ i % 2) ∧ b / 2 ^ i % 2 < 2 := fun i hi => ⟨zr_bit b hb i hi, Nat.mod_lt _ (by omega)⟩
  refine zr_stretch (R := 0) (w := w) (v := fun i => a / 2 ^ i % 2) (by omega) hw1 hw9 rfl va (fun b1 b2 _ B1 => ?_)
  refine zr_stretch (R := 1) (w := w) (v := fun i => b / 2 ^ i % 2) (by omega) hw1 hw9 rfl vb (fun c1 c2 C0 C1 => ?_)
  refine zr_stretch (R := 2) (w := w) (v := fun i => a / 2 ^ i % 2) (by omega) hw1 hw9 rfl va (fun d1 d2 D0 D1 => ?_)
  refine zr_stretch (R := 3) (w := w) (v := fun i => b / 2 ^ i % 2) (by omega) hw1 hw9 rfl vb (fun f1 f2 F0 F1 => ?_)
  have h : ∀ j, j < 32 → f1 j = nI w ∧ f2 j = nI (zr_V a b j) := by
    intro j hj
    obtain ⟨s, hs, es⟩ : ∃ s, s < 8 ∧ j % 8 = s := ⟨j % 8, by omega, rfl⟩
    obtain ⟨v0, v1, v2, v3⟩ := zr_Vs a b s hs
    rcases (show j = 0 * 8 + s ∨ j = 1 * 8 + s ∨ j = 2 * 8 + s ∨ j = 3 * 8 + s by omega) with e | e | e | e
    · subst e
      rw [(F0 _ (by omega)).1, (F0 _ (by omega)).2, (D0 _ (by omega)).1, (D0 _ (by omega)).2, (C0 _ (by omega)).1, (C0 _ (by omega)).2, v0]
      exact B1 s hs
    · subst e
      rw [(F0 _ (by omega)).1, (F0 _ (by omega)).2, (D0 _ (by omega)).1, (D0 _ (by omega)).2, v1]
      exact C1 s hs
    · subst e
      rw [(F0 _ (by omega)).1, (F0 _ (by omega)).2, v2]
      exact D1 s hs
    · subst e
      rw [v3]
      exact F1 s hs
  have hD := zr_D0 hw1 hw9 h
  have hd := zr_d8 a b
  have tab := zr_pTab w a b hw1
  refine zr_bits (x := a ^^^ b) (Nat.xor_lt_two_pow (n := 8) ha hb) (zr_nx a b) ?_
  refine zr_least hD (fun aw1 g0 g1 g2 g3 m3 m4 m5 => br_t (congrArg nI (zr_pLeast w a b)) ?_)
  refine zr_costOf 10 hD (by omega) (by decide) (fun h0 h1 h2 h3 => br_t ?_ ?_)
  · exact congrArg nI ((zr_cc10 w a b).trans (Nat.zero_mul _))
  refine zr_costOf 0 hD (by omega) (by decide) (fun h0 h1 h2 h3 => br_t ?_ ?_)
  · refine (congrArg nI (zr_cc0 w a b)).trans ?_
    show nI (2 * (w * zr_d a b)) = nI 2 * nI w * nI (zr_d a b)
    rw [pk_mul, pk_mul, Nat.mul_assoc]
  refine zr_costOf 14 hD (by omega) (by decide) (fun h0 h1 h2 h3 => br_t ?_ ?_)
  · refine (congrArg nI (zr_cc14 w a b)).trans ?_
    show nI (1 * (w * zr_d a b)) = nI w * nI (zr_d a b)
    rw [pk_mul, Nat.one_mul]
  refine zr_ties hD (fun aw2 k0 k1 k2 k3 n3 n4 n5 => ?_)
  refine pk_eq (zr_d a b) 0 (fun z => ?_) (fun z => ?_)
  · exact zr_l167 hp1 ha hb hw1 hw9 hp h (by rw [tab, if_pos z]; rfl)
  · exact zr_l167 hp1 ha hb hw1 hw9 hp h (by rw [tab, if_neg z]; rfl)
theorem i_vc (xs : Nat → Int32) (L : Nat) (hL : L ≤ 4) : wpL_law (fun r => r = 1) L xs := by
  unfold wpL_law
  refine zr_cell 0 hL (by omega) rfl (fun r1 => zr_cell 1 hL (by omega) rfl (fun r2 => zr_cell 2 hL (by omega) rfl (fun r3 => zr_cell 3 hL (by omega) rfl (fun r4 => ?_))))
  exact ⟨600000, 7302250, by omega, by omega, zr_main rfl r1 r2 r3 r4⟩
end
