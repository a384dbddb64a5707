section
theorem rt_997 : ¬ (997 : Int32) = 0 := by decide
theorem rt_mod {a : Nat} (h : a < 2 ^ 31) : nI a - nI a / 997 * 997 = nI (a % 997) := pk_rem (d := 997) h (by decide) (by decide)
theorem rt_bd {q t : Nat} (hq : q < 1000) (ht : t < 1000) : q * t < 1000000 := by
  have h : q * t ≤ 999 * 999 := Nat.mul_le_mul (by omega) (by omega)
  omega
theorem rt_m9 (n : Nat) : n % 997 < 1000 := Nat.lt_trans (Nat.mod_lt n (by decide)) (by decide)
theorem rt_ma {x y z : Int32} {p q t : Nat} (hx : x = nI p) (hy : y = nI q) (hz : z = nI t) (hp : p < 1000) (hq : q < 1000) (ht : t < 1000) : (x + y * z) - (x + y * z) / 997 * 997 = nI ((p + q * t) % 997) := by
  have hb := rt_bd hq ht
  subst hx hy hz
  rw [pk_mul, nI_add]
  exact rt_mod (by omega)
theorem rt_mm {y z : Int32} {q t : Nat} (hy : y = nI q) (hz : z = nI t) (hq : q < 1000) (ht : t < 1000) : (y * z) - (y * z) / 997 * 997 = nI (q * t % 997) := by
  have hb := rt_bd hq ht
  subst hy hz
  rw [pk_mul]
  exact rt_mod (by omega)
theorem rt_m0 {y z : Int32} {q t : Nat} (hy : y = nI q) (hz : z = nI t) (hq : q < 1000) (ht : t < 1000) : (0 + y * z) - (0 + y * z) / 997 * 997 = nI (q * t % 997) := by
  rw [Int32.zero_add]
  exact rt_mm hy hz hq ht
theorem rt_aa {y z : Int32} {q t : Nat} (hy : y = nI q) (hz : z = nI t) (hq : q < 1000) (ht : t < 1000) : (y + z) - (y + z) / 997 * 997 = nI ((q + t) % 997) := by
  subst hy hz
  rw [nI_add]
  exact rt_mod (by omega)
theorem rt_fill {f s : Nat → Int32} {i k : Nat} {x : Int32} (hk : k = i) (h : ∀ j, j < i → s j = f j) (hx : x = f i) : ∀ j, j < i + 1 → upd s k x j = f j := by
  intro j hj
  rw [hk]
  by_cases e : j = i
  · rw [e, pk_us, hx]
  · rw [pk_un e]
    exact h j (by omega)
theorem rt_4 (k j : Nat) : 4 * nI k + nI j = nI (4 * k + j) := by
  rw [show (4 : Int32) = nI 4 from rfl, pk_mul, nI_add]
theorem rt_41 (k : Nat) : 4 * nI k + nI 1 - 1 = nI (4 * k) := by
  rw [rt_4, nI_pred]
theorem rt_410 (k : Nat) : 4 * nI k + nI 1 - 1 - nI 0 = nI (4 * k) := by
  rw [rt_41, nI_0, Int32.sub_zero]
/-- the bits of a shifted number -/
theorem rt_sl : ∀ n, n < 32 → ((nI n &&& 31).toBitVec.smod 32).toNat = n := by decide +kernel
theorem rt_bit {N j : Nat} (hN : N < 2 ^ 31) (hj : j < 31) : ((nI N >>> (nI j &&& 31)) &&& 1) = 1 ↔ N / 2 ^ j % 2 = 1 := by
  have h2 : N / 2 ^ j ≤ N := Nat.div_le_self _ _
  rw [pk_shrN hN (nI j &&& 31) j (rt_sl j (by omega)), pk_andN (m := 1) (by omega) 1 (by decide)]
  exact nI_eq (b := 1) (by omega) (by omega)
/-- the numbers modulo 997 -/
def rt_E (x y : Int) : Prop := ∃ q : Int, x = y + 997 * q
theorem rt_E_refl (x : Int) : rt_E x x := ⟨0, by omega⟩
theorem rt_E_eq {x y : Int} (h : x = y) : rt_E x y := ⟨0, by omega⟩
theorem rt_E_symm {x y : Int} (h : rt_E x y) : rt_E y x := by
  obtain ⟨q, h⟩ := h
  exact ⟨-q, by omega⟩
theorem rt_E_trans {x y z : Int} (h : rt_E x y) (h' : rt_E y z) : rt_E x z := by
  obtain ⟨q, h⟩ := h
  obtain ⟨q', h'⟩ := h'
  exact ⟨q + q', by omega⟩
theorem rt_E_add {x y x' y' : Int} (h : rt_E x y) (h' : rt_E x' y') : rt_E (x + x') (y + y') := by
  obtain ⟨q, h⟩ := h
  obtain ⟨q', h'⟩ := h'
  exact ⟨q + q', by omega⟩
theorem rt_E_mul {x y x' y' : Int} (h : rt_E x y) (h' : rt_E x' y') : rt_E (x * x') (y * y') := by
  obtain ⟨q, h⟩ := h
  obtain ⟨q', h'⟩ := h'
  refine ⟨q * y' + y * q' + 997 * (q * q'), ?_⟩
  rw [h, h']
  grind
theorem rt_E_mod (n : Nat) : rt_E ((n % 997 : Nat) : Int) (n : Int) := ⟨-((n / 997 : Nat) : Int), by omega⟩
theorem rt_E_fin {x y : Nat} (h : rt_E (x : Int) (y : Int)) : x % 997 = y % 997 := by
  obtain ⟨q, h⟩ := h
  omega
theorem rt_E_out {x y : Nat} (h : x % 997 = y % 997) : rt_E (x : Int) (y : Int) := ⟨((x / 997 : Nat) : Int) - ((y / 997 : Nat) : Int), by omega⟩
/-- powers -/
theorem rt_geo (a r n : Nat) : a * r ^ n % 997 * r % 997 = a * r ^ (n + 1) % 997 := by
  rw [Nat.mod_mul_mod, Nat.pow_succ, Nat.mul_assoc]
theorem rt_sqr (r n : Nat) : r ^ n % 997 * (r ^ n % 997) % 997 = r ^ (2 * n) % 997 := by
  rw [Nat.mod_mul_mod, Nat.mul_mod_mod, ← Nat.pow_add, Nat.two_mul]
theorem rt_sqx (r n : Nat) : r ^ n % 997 * r % 997 = r ^ (n + 1) % 997 := by
  rw [Nat.mod_mul_mod, Nat.pow_succ]
theorem rt_half (N j : Nat) : N / 2 ^ j = 2 * (N / 2 ^ (j + 1)) + N / 2 ^ j % 2 := by
  rw [Nat.pow_succ, ← Nat.div_div_eq_div_mul]
  omega
theorem rt_rstep (r N j : Nat) : (if N / 2 ^ j % 2 = 1 then r ^ (N / 2 ^ (j + 1)) % 997 * (r ^ (N / 2 ^ (j + 1)) % 997) % 997 * r % 997 else r ^ (N / 2 ^ (j + 1)) % 997 * (r ^ (N / 2 ^ (j + 1)) % 997) % 997) = r ^ (N / 2 ^ j) % 997 := by
  have h := rt_half N j
  rw [rt_sqr, rt_sqx]
  by_cases c : N / 2 ^ j % 2 = 1
  · rw [if_pos c]
    rw [c] at h
    rw [← h]
  · rw [if_neg c]
    have c0 : N / 2 ^ j % 2 = 0 := by omega
    rw [c0] at h
    rw [show 2 * (N / 2 ^ (j + 1)) = N / 2 ^ j by omega]
/-- the inverse, as the loop finds it -/
def rt_ir (x : Nat) : Nat → Nat
  | 0 => x
  | i + 1 => rt_ir x i ^ 2 % 997
def rt_io (x : Nat) : Nat → Nat
  | 0 => 1
  | i + 1 => if 995 / 2 ^ i % 2 = 1 then rt_io x i * rt_ir x i % 997 else rt_io x i
theorem rt_ir_lt {x : Nat} (h : x < 1000) : ∀ i, rt_ir x i < 1000
  | 0 => h
  | i + 1 => rt_m9 _
theorem rt_io_lt (x : Nat) : ∀ i, rt_io x i < 1000
  | 0 => show 1 < 1000 by decide
  | i + 1 => by
    unfold rt_io
    by_cases c : 995 / 2 ^ i % 2 = 1
    · rw [if_pos c]
      exact rt_m9 _
    · rw [if_neg c]
      exact rt_io_lt x i
theorem rt_inv : ∀ x, x < 997 → 0 < x → rt_io x 10 * x % 997 = 1 := by decide +kernel
theorem rt_inv1 : rt_io 1 10 = 1 := by decide +kernel
theorem rt_prime {x y : Nat} (hx : x < 997) (hy : y < 997) (hx0 : 0 < x) (h : x * y % 997 = 0) : y = 0 := by
  have h1 := rt_inv x hx hx0
  have h2 : rt_io x 10 * x % 997 * y % 997 = rt_io x 10 * (x * y % 997) % 997 := by
    rw [Nat.mod_mul_mod, Nat.mul_mod_mod, Nat.mul_assoc]
  rw [h1, h, Nat.mul_zero, Nat.one_mul] at h2
  omega
theorem rt_pnz {a r : Nat} (ha : a < 997) (hr : r < 997) (ha0 : 0 < a) (hr0 : 0 < r) : ∀ n, a * r ^ n % 997 ≠ 0
  | 0 => by
    rw [Nat.pow_zero, Nat.mul_one]
    omega
  | n + 1 => fun h => by
    rw [← rt_geo, Nat.mul_comm] at h
    exact rt_pnz ha hr ha0 hr0 n (rt_prime hr (Nat.mod_lt _ (by decide)) hr0 h)
/-- the law of the sum: the term 3 of the rule (-r, r + 1) with the heads a, a + a r -/
theorem rt_sum {a r : Nat} (hr : r < 997) : ((((997 - r) % 997 * ((r + 998) % 997)) % 997 * a) % 997 + (((997 - r) % 997 + (r + 998) % 997 * ((r + 998) % 997)) % 997) * ((a + a * r ^ 1 % 997) % 997)) % 997 = (a + a * r ^ 1 % 997 + a * r ^ 2 % 997 + a * r ^ 3 % 997) % 997 := by
  apply rt_E_fin
  have m0 : rt_E (((997 - r) % 997 : Nat) : Int) (-(r : Int)) := rt_E_trans (rt_E_mod _) ⟨1, by omega⟩
  have m1 : rt_E (((r + 998) % 997 : Nat) : Int) ((r : Int) + 1) := rt_E_trans (rt_E_mod _) ⟨1, by omega⟩
  have t : ∀ n, rt_E ((a * r ^ n % 997 : Nat) : Int) ((a : Int) * (r : Int) ^ n) := fun n => rt_E_trans (rt_E_mod _) (rt_E_eq (by rw [Int.natCast_mul, Int.natCast_pow]))
  generalize (997 - r) % 997 = p at m0 ⊢
  generalize (r + 998) % 997 = q at m1 ⊢
  have t1 := t 1
  have t2 := t 2
  have t3 := t 3
  generalize a * r ^ 1 % 997 = b at t1 ⊢
  generalize a * r ^ 2 % 997 = c at t2 ⊢
  generalize a * r ^ 3 % 997 = d at t3 ⊢
  have e1 : rt_E ((p * q % 997 * a % 997 : Nat) : Int) (-(r : Int) * ((r : Int) + 1) * (a : Int)) := by
    refine rt_E_trans (rt_E_mod _) ?_
    rw [Int.natCast_mul]
    refine rt_E_mul (rt_E_trans (rt_E_mod _) ?_) (rt_E_refl _)
    rw [Int.natCast_mul]
    exact rt_E_mul m0 m1
  have e2 : rt_E (((p + q * q) % 997 : Nat) : Int) (-(r : Int) + ((r : Int) + 1) * ((r : Int) + 1)) := by
    refine rt_E_trans (rt_E_mod _) ?_
    rw [Int.natCast_add, Int.natCast_mul]
    exact rt_E_add m0 (rt_E_mul m1 m1)
  have e3 : rt_E (((a + b) % 997 : Nat) : Int) ((a : Int) + (a : Int) * (r : Int) ^ 1) := by
    refine rt_E_trans (rt_E_mod _) ?_
    rw [Int.natCast_add]
    exact rt_E_add (rt_E_refl _) t1
  rw [Int.natCast_add, Int.natCast_mul ((p + q * q) % 997), Int.natCast_add (a + b + c), Int.natCast_add (a + b), Int.natCast_add a]
  refine rt_E_trans (rt_E_add e1 (rt_E_mul e2 e3)) (rt_E_symm (rt_E_trans (rt_E_add (rt_E_add (rt_E_add (rt_E_refl _) t1) t2) t3) (rt_E_eq ?_)))
  grind
/-- the law of the mended rule -/
theorem rt_mend1 {a r : Nat} (ha : a < 997) (hr : r < 997) (ha0 : 0 < a) : (a + ((a * r ^ 1 % 997 + (997 - a) * a) % 997 * rt_io a 10) % 997) % 997 = r := by
  have hv := rt_inv a ha ha0
  generalize rt_io a 10 = v at hv ⊢
  have e0 : rt_E ((v : Int) * (a : Int)) 1 := by
    have h := rt_E_out (x := v * a) (y := 1) (by omega)
    rw [Int.natCast_mul] at h
    exact h
  have e1 : rt_E (((a * r ^ 1 % 997 + (997 - a) * a) % 997 : Nat) : Int) ((a : Int) * (r : Int) + (-(a : Int)) * (a : Int)) := by
    refine rt_E_trans (rt_E_mod _) ?_
    rw [Int.natCast_add, Int.natCast_mul (997 - a)]
    refine rt_E_add (rt_E_trans (rt_E_mod _) (rt_E_eq ?_)) (rt_E_mul ⟨1, by omega⟩ (rt_E_refl _))
    rw [Nat.pow_one, Int.natCast_mul]
  generalize (a * r ^ 1 % 997 + (997 - a) * a) % 997 = g at e1 ⊢
  have e2 : rt_E ((g * v % 997 : Nat) : Int) ((r : Int) + -(a : Int)) := by
    refine rt_E_trans (rt_E_mod _) ?_
    rw [Int.natCast_mul]
    refine rt_E_trans (rt_E_mul e1 (rt_E_refl _)) ?_
    refine rt_E_trans (rt_E_eq (y := ((v : Int) * (a : Int)) * ((r : Int) + -(a : Int))) (by grind)) ?_
    exact rt_E_trans (rt_E_mul e0 (rt_E_refl _)) (rt_E_eq (by omega))
  have e3 : rt_E ((a + g * v % 997 : Nat) : Int) (r : Int) := by
    rw [Int.natCast_add]
    exact rt_E_trans (rt_E_add (rt_E_refl _) e2) (rt_E_eq (by omega))
  rw [rt_E_fin e3]
  exact Nat.mod_eq_of_lt hr
/-- the law of the rule that holds -/
theorem rt_gap0 {a r n : Nat} (hr : r < 997) : (a * r ^ (n + 1) % 997 + (997 - r) * (a * r ^ n % 997)) % 997 = 0 := by
  have h := rt_geo a r n
  have e : rt_E ((a * r ^ (n + 1) % 997 + (997 - r) * (a * r ^ n % 997) : Nat) : Int) ((0 : Nat) : Int) := by
    rw [← h]
    generalize a * r ^ n % 997 = t
    rw [Int.natCast_add, Int.natCast_mul (997 - r)]
    refine rt_E_trans (rt_E_add (rt_E_mod _) (rt_E_mul (y := -(r : Int)) ⟨1, by omega⟩ (rt_E_refl _))) (rt_E_eq ?_)
    rw [Int.natCast_mul]
    grind
  exact rt_E_fin e
end
section
theorem rt_take {post : St2 → Prop} {f : Int32} {a1 a2 a3 a4 a5 a6 a7 a8 a9 a10 a11 a12 a13 : Nat → Int32} {k : Nat} (hk : k < 3) (h1 : a1 k = nI 1) (H : ∀ b4 : Nat → Int32, b4 0 = a2 (4 * k) → post (f, a1, a2, a3, b4, a5, a6, a7, a8, a9, a10, a11, a12, a13)) : wpX_takeRule post (f, a1, a2, a3, a4, a5, a6, a7, a8, a9, a10, a11, a12, a13) (nI k) := by
  refine ⟨pk_in k 3 hk, nm_r (e' := nI 1) (by rw [nI_clamp (by omega)]; exact h1) (pk_loop (fun n i s => wX_takeRule_9 post (nI k) (nI 1) f n (nI i) a1 a2 a3 s a5 a6 a7 a8 a9 a10 a11 a12 a13) (fun i s => 0 < i → s 0 = a2 (4 * k)) 6 0 a4 (by omega) (fun h => absurd h (by omega)) (fun n s h => pk_le 6 6 (fun _ => H s (h (by omega))) (fun z => absurd z (by omega))) ?_)⟩
  intro n i s hi h hw
  refine pk_le 6 i (fun z => absurd z (by omega)) (fun _ => pk_le 1 i (fun z => ?_) (fun z => ?_))
  · refine ⟨pk_in i 6 hi, nm_e (nm_r (nI_1 i) (hw _ (fun _ => ?_)))⟩
    rw [nI_clamp (by omega), pk_un (by omega)]
    exact h (by omega)
  · have e : i = 0 := by omega
    subst e
    refine ⟨pk_in (4 * k) 12 (by omega) (rt_410 k), pk_in 0 6 (by omega), nm_e (nm_r (nI_1 0) (hw _ (fun _ => ?_)))⟩
    rw [rt_410, nI_clamp (by omega), nI_clamp (by omega)]
    exact pk_us
theorem rt_q172 {post : St2 → Prop} {a1 a2 a3 a4 a5 a6 a7 a8 a9 a10 a11 a12 a13 : Nat → Int32} {z : Nat} (hz : z ≤ 5) (H : ∀ b6 : Nat → Int32, (∀ j, j < z → b6 j = a8 j) → post (nI z, a1, a2, a3, a4, a5, b6, a7, a8, a9, a10, a11, a12, a13)) : ∃ n, wX_squarePower_172 post (nI z) n 0 a1 a2 a3 a4 a5 a6 a7 a8 a9 a10 a11 a12 a13 :=
  pk_loop (fun n i s => wX_squarePower_172 post (nI z) n (nI i) a1 a2 a3 a4 a5 s a7 a8 a9 a10 a11 a12 a13) (fun i s => ∀ j, j < i → s j = a8 j) z 0 a6 (by omega) (fun j hj => absurd hj (by omega))
    (fun n s h => pk_le z z (fun _ => H s h) (fun c => absurd c (by omega)))
    (fun n i s hi h hw => pk_le z i (fun c => absurd c (by omega)) (fun _ => ⟨pk_in i 10 (by omega), pk_in i 5 (by omega), nm_e (nm_r (nI_1 i) (hw _ (rt_fill (nI_clamp (by omega)) h (by rw [nI_clamp (by omega)]))))⟩))
theorem rt_q2 {post : St2 → Prop} {f : Int32} {a1 a2 a3 a4 a5 a6 a7 a8 a9 a10 a11 a12 a13 : Nat → Int32} (H : ∀ b8 : Nat → Int32, (∀ j, j < 10 → b8 j = nI 0) → ∃ n, wX_squarePower_23 post f n 0 a1 a2 a3 a4 a5 a6 a7 b8 a9 a10 a11 a12 a13) : wpX_squarePower post (f, a1, a2, a3, a4, a5, a6, a7, a8, a9, a10, a11, a12, a13) :=
  pk_loop (fun n i s => wX_squarePower_2 post f n (nI i) a1 a2 a3 a4 a5 a6 a7 s a9 a10 a11 a12 a13) (fun i s => ∀ j, j < i → s j = nI 0) 10 0 a8 (by omega) (fun j hj => absurd hj (by omega))
    (fun n s h => pk_le 10 10 (fun _ => H s h) (fun c => absurd c (by omega)))
    (fun n i s hi h hw => pk_le 10 i (fun c => absurd c (by omega)) (fun _ => ⟨pk_in i 10 (by omega), nm_e (nm_r (nI_1 i) (hw _ (rt_fill (f := fun _ => nI 0) (nI_clamp (by omega)) h rfl)))⟩))
theorem rt_q33s {post : St2 → Prop} {J : Int32 → (Nat → Int32) → (Nat → Int32) → (Nat → Int32) → (Nat → Int32) → (Nat → Int32) → (Nat → Int32) → (Nat → Int32) → (Nat → Int32) → (Nat → Int32) → (Nat → Int32) → (Nat → Int32) → (Nat → Int32) → (Nat → Int32) → Prop} {a1 a2 a3 a4 a5 a6 a7 a8 a9 a10 a11 a12 a13 : Nat → Int32} {n z i j P p q : Nat} (hz : z ≤ 5) (hi : i < z) (hj : j < z) (hP : a8 (i + j) = nI P) (hp : a6 i = nI p) (hq : a6 j = nI q) (lP : P < 1000) (lp : p < 1000) (lq : q < 1000)
    (hw : wX_squarePower_33 post J (nI i) (nI z) n (nI (j + 1)) a1 a2 a3 a4 a5 a6 a7 (upd a8 (i + j) (nI ((P + p * q) % 997))) a9 a10 a11 a12 a13) : wX_squarePower_33 post J (nI i) (nI z) (n + 1) (nI j) a1 a2 a3 a4 a5 a6 a7 a8 a9 a10 a11 a12 a13 := by
  refine pk_le z j (fun c => absurd c (by omega)) (fun _ => ⟨pk_in (i + j) 10 (by omega) (nI_add i j), pk_in i 5 (by omega), pk_in j 5 (by omega), rt_997, pk_in (i + j) 10 (by omega) (nI_add i j), nm_r (e' := upd a8 (i + j) (nI ((P + p * q) % 997))) ?_ (nm_r (nI_1 j) hw)⟩)
  rw [nI_add, nI_clamp (by omega), nI_clamp (by omega), nI_clamp (by omega), rt_ma hP hp hq lP lp lq]
theorem rt_q33x {post : St2 → Prop} {J : Int32 → (Nat → Int32) → (Nat → Int32) → (Nat → Int32) → (Nat → Int32) → (Nat → Int32) → (Nat → Int32) → (Nat → Int32) → (Nat → Int32) → (Nat → Int32) → (Nat → Int32) → (Nat → Int32) → (Nat → Int32) → (Nat → Int32) → Prop} {a1 a2 a3 a4 a5 a6 a7 a8 a9 a10 a11 a12 a13 : Nat → Int32} {n z i : Nat} (hz : z ≤ 5) (hw : J (nI (i + 1)) a1 a2 a3 a4 a5 a6 a7 a8 a9 a10 a11 a12 a13) : wX_squarePower_33 post J (nI i) (nI z) (n + 1) (nI z) a1 a2 a3 a4 a5 a6 a7 a8 a9 a10 a11 a12 a13 :=
  pk_le z z (fun _ => nm_r (nI_1 i) hw) (fun c => absurd c (by omega))
theorem rt_sq1 {post : St2 → Prop} {a1 a2 a3 a4 a5 a6 a7 a8 a9 a10 a11 a12 a13 : Nat → Int32} {p : Nat} (hp : p < 997) (h6 : a6 0 = nI p) (H : ∀ b6 b8 : Nat → Int32, b6 0 = nI (p * p % 997) → post (nI 1, a1, a2, a3, a4, a5, b6, a7, b8, a9, a10, a11, a12, a13)) : wpX_squarePower post (nI 1, a1, a2, a3, a4, a5, a6, a7, a8, a9, a10, a11, a12, a13) := by
  refine rt_q2 (fun b8 h8 => ⟨0 + 1 + 1, ?_⟩)
  refine pk_le 1 0 (fun c => absurd c (by omega)) (fun _ => ⟨0 + 1 + 1, ?_⟩)
  refine rt_q33s (z := 1) (i := 0) (j := 0) (P := 0) (p := p) (q := p) (by omega) (by omega) (by omega) (h8 0 (by omega)) h6 h6 (by omega) (by omega) (by omega) ?_
  refine rt_q33x (z := 1) (i := 0) (by omega) ?_
  refine pk_le 1 1 (fun _ => nm_r (e' := nI 0) (by decide) ⟨0 + 1, pk_lt 0 1 (fun _ => rt_q172 (z := 1) (by omega) (fun b6 e6 => H b6 _ ?_)) (fun c => absurd c (by omega))⟩) (fun c => absurd c (by omega))
  rw [e6 0 (by omega)]
  refine pk_us.trans ?_
  rw [Nat.zero_add]
theorem rt_tx0 {post : St2 → Prop} {a1 a2 a3 a4 a5 a6 a7 a8 a9 a10 a11 a12 a13 : Nat → Int32} {n z t m : Nat} (h4 : a4 0 = nI m) (ht : t < 1000) (hm : m < 1000) (H : post (nI z, a1, a2, a3, a4, a5, upd a6 0 (nI (t * m % 997)), a7, a8, a9, a10, a11, a12, a13)) : wX_timesX_19 post (nI t) (nI z) (n + 1 + 1) (nI 0) a1 a2 a3 a4 a5 a6 a7 a8 a9 a10 a11 a12 a13 := by
  refine br_f (by decide) (pk_le 0 0 (fun _ => ⟨pk_in 0 6 (by omega), rt_997, pk_in 0 5 (by omega), nm_r (e' := upd a6 0 (nI (t * m % 997))) ?_ (nm_e (br_t (by decide) H))⟩) (fun c => absurd c (by omega)))
  rw [nI_clamp (by omega), rt_m0 rfl h4 ht hm]
theorem rt_tx1 {post : St2 → Prop} {a1 a2 a3 a4 a5 a6 a7 a8 a9 a10 a11 a12 a13 : Nat → Int32} {p m : Nat} (h6 : a6 0 = nI p) (h4 : a4 0 = nI m) (hp : p < 1000) (hm : m < 1000) (H : ∀ b6 : Nat → Int32, b6 0 = nI (p * m % 997) → post (nI 1, a1, a2, a3, a4, a5, b6, a7, a8, a9, a10, a11, a12, a13)) : wpX_timesX post (nI 1, a1, a2, a3, a4, a5, a6, a7, a8, a9, a10, a11, a12, a13) :=
  ⟨pk_in 0 5 (by omega) (by decide), nm_r (e' := nI p) h6 (nm_r (e' := nI 0) (by decide) ⟨0 + 1 + 1, rt_tx0 h4 hp hm (H _ pk_us)⟩)⟩
theorem rt_ra2 {post : St2 → Prop} {a1 a2 a3 a4 a5 a6 a7 a8 a9 a10 a11 a12 a13 : Nat → Int32} {x : Int32} {z : Nat} (hz : 0 < z) (hz5 : z ≤ 5) (H : ∀ b6 : Nat → Int32, b6 0 = nI 1 → b6 1 = nI 0 → ∃ n, wX_raise_38 post x n 30 (nI z) a1 a2 a3 a4 a5 b6 a7 a8 a9 a10 a11 a12 a13) : wpX_raise post (nI z, a1, a2, a3, a4, a5, a6, a7, a8, a9, a10, a11, a12, a13) x := by
  refine pk_loop (fun n i s => wX_raise_2 post x (nI z) n (nI i) a1 a2 a3 a4 a5 s a7 a8 a9 a10 a11 a12 a13) (fun i s => (0 < i → s 0 = nI 1) ∧ (1 < i → s 1 = nI 0)) 5 0 a6 (by omega) ⟨fun h => absurd h (by omega), fun h => absurd h (by omega)⟩ (fun n s h => pk_le 5 5 (fun _ => H s (h.1 (by omega)) (h.2 (by omega))) (fun c => absurd c (by omega))) ?_
  intro n i s hi h hw
  refine pk_le 5 i (fun c => absurd c (by omega)) (fun _ => pk_eq i 0 (fun e => ?_) (fun e => ?_))
  · subst e
    refine pk_le z 0 (fun c => absurd c (by omega)) (fun _ => ⟨pk_in 0 5 (by omega), nm_e (nm_r (nI_1 0) (hw _ ⟨fun _ => ?_, fun c => absurd c (by omega)⟩))⟩)
    rw [nI_clamp (by omega)]
    exact pk_us
  · refine ⟨pk_in i 5 (by omega), nm_e (nm_r (nI_1 i) (hw _ ⟨fun _ => ?_, fun c => ?_⟩))⟩
    · rw [nI_clamp (by omega), pk_un (by omega)]
      exact h.1 (by omega)
    · rw [nI_clamp (by omega)]
      by_cases e1 : i = 1
      · subst e1
        exact pk_us
      · rw [pk_un (by omega)]
        exact h.2 (by omega)
theorem rt_r38 {post : St2 → Prop} {a1 a2 a3 a4 a5 a6 a7 a8 a9 a10 a11 a12 a13 : Nat → Int32} {N n j p r : Nat} (hN : N < 2 ^ 31) (hj : j < 31) (hp : p < 997) (hr : r < 997) (h4 : a4 0 = nI r) (h6 : a6 0 = nI p) (hw : ∀ b6 b8 : Nat → Int32, b6 0 = nI (if N / 2 ^ j % 2 = 1 then p * p % 997 * r % 997 else p * p % 997) → wX_raise_38 post (nI N) n (nI j + (-1)) (nI 1) a1 a2 a3 a4 a5 b6 a7 b8 a9 a10 a11 a12 a13) : wX_raise_38 post (nI N) (n + 1) (nI (j + 1) + (-1)) (nI 1) a1 a2 a3 a4 a5 a6 a7 a8 a9 a10 a11 a12 a13 := by
  rw [pk_m1]
  refine pk_lt j 0 (fun c => absurd c (by omega)) (fun _ => pk_le 1 0 (fun c => absurd c (by omega)) (fun _ => rt_sq1 hp h6 (fun b6 b8 e => ek_if (rt_bit hN hj) (fun hb => ?_) (fun hb => ?_))))
  · refine rt_tx1 e h4 (rt_m9 _) (by omega) (fun c6 e' => nm_e (hw c6 b8 ?_))
    rw [if_pos hb]
    exact e'
  · refine nm_e (hw b6 b8 ?_)
    rw [if_neg hb]
    exact e
theorem rt_raise {post : St2 → Prop} {a1 a2 a3 a4 a5 a6 a7 a8 a9 a10 a11 a12 a13 : Nat → Int32} {N r : Nat} (hN : N < 2 ^ 31) (hr : r < 997) (h4 : a4 0 = nI r) (H : ∀ b6 b8 : Nat → Int32, b6 0 = nI (r ^ N % 997) → post (nI 1, a1, a2, a3, a4, a5, b6, a7, b8, a9, a10, a11, a12, a13)) : wpX_raise post (nI 1, a1, a2, a3, a4, a5, a6, a7, a8, a9, a10, a11, a12, a13) (nI N) := by
  refine rt_ra2 (z := 1) (by omega) (by omega) (fun b6 e6 _ => ⟨31 + 1, ?_⟩)
  refine pk_loopD (σ := (Nat → Int32) × (Nat → Int32)) (fun n j s => j ≤ 31 → wX_raise_38 post (nI N) n (nI j + (-1)) (nI 1) a1 a2 a3 a4 a5 s.1 a7 s.2 a9 a10 a11 a12 a13) (fun j s => s.1 0 = nI (r ^ (N / 2 ^ j) % 997)) ?_ ?_ 31 (b6, a8) ?_ (Nat.le_refl 31)
  · intro n s h _
    rw [Nat.pow_zero, Nat.div_one] at h
    exact br_t (by decide) (H _ _ h)
  · intro n j s h hw hj
    refine rt_r38 hN (by omega) (Nat.mod_lt _ (by decide)) hr h4 h (fun c6 c8 e => hw (c6, c8) ?_ (by omega))
    rw [rt_rstep] at e
    exact e
  · show b6 0 = _
    rw [e6, Nat.div_eq_of_lt hN]
    rfl
theorem rt_term {post : Int32 → St2 → Prop} {f : Int32} {a1 a2 a3 a4 a5 a6 a7 a8 a9 a10 a11 a12 a13 : Nat → Int32} {k n r a : Nat} (hk : k < 3) (hn : n < 2 ^ 31) (hr : r < 997) (ha : a < 997) (h1 : a1 k = nI 1) (h2 : a2 (4 * k) = nI r) (h3 : a3 (4 * k) = nI a) (H : ∀ (g : Int32) (b4 b6 b8 : Nat → Int32), post (nI (a * r ^ n % 997)) (g, a1, a2, a3, b4, a5, b6, a7, b8, a9, a10, a11, a12, a13)) : wpX_termAt post (f, a1, a2, a3, a4, a5, a6, a7, a8, a9, a10, a11, a12, a13) (nI k) (nI n) := by
  refine ⟨pk_in k 3 hk, nm_r (e' := nI 1) (by rw [nI_clamp (by omega)]; exact h1) (pk_le 1 n (fun c => ?_) (fun c => ?_))⟩
  · refine rt_take hk h1 (fun b4 e4 => rt_raise hn hr (e4.trans h2) (fun b6 b8 e6 => ⟨0 + 1 + 1, ?_⟩))
    refine pk_le 1 0 (fun c => absurd c (by omega)) (fun _ => ⟨pk_in 0 5 (by omega), pk_in (4 * k) 12 (by omega) (rt_4 k 0), rt_997, nm_r (e' := nI (a * r ^ n % 997)) ?_ (nm_r (nI_1 0) (pk_le 1 1 (fun _ => H _ _ _ _) (fun c => absurd c (by omega))))⟩)
    have e7 : b6 (0 : Int32).toNatClampNeg = nI (r ^ n % 997) := e6
    have e8 : a3 (4 * nI k + 0).toNatClampNeg = nI a := by
      rw [Int32.add_zero, show (4 : Int32) = nI 4 from rfl, pk_mul, nI_clamp (by omega)]
      exact h3
    rw [rt_m0 e7 e8 (rt_m9 _) (by omega), Nat.mod_mul_mod, Nat.mul_comm]
  · have e : n = 0 := by omega
    subst e
    refine ⟨pk_in (4 * k) 12 (by omega) (rt_4 k 0), ?_⟩
    have e8 : a3 (4 * nI k + nI 0).toNatClampNeg = nI (a * r ^ 0 % 997) := by
      rw [rt_4, Nat.add_zero, nI_clamp (by omega), Nat.pow_zero, Nat.mul_one, Nat.mod_eq_of_lt ha]
      exact h3
    rw [e8]
    exact H f a4 a6 a8
theorem rt_take_2 {post : St2 → Prop} {f : Int32} {a1 a2 a3 a4 a5 a6 a7 a8 a9 a10 a11 a12 a13 : Nat → Int32} {k : Nat} (hk : k < 3) (h1 : a1 k = nI 1) (H : ∀ b4 : Nat → Int32, b4 0 = a2 (4 * k) → post (f, a1, a2, a3, b4, a5, a6, a7, a8, a9, a10, a11, a12, a13)) : wpX_takeRule_2 post (f, a1, a2, a3, a4, a5, a6, a7, a8, a9, a10, a11, a12, a13) (nI k) := by
  refine ⟨pk_in k 3 hk, nm_r (e' := nI 1) (by rw [nI_clamp (by omega)]; exact h1) (pk_loop (fun n i s => wX_takeRule_2_9 post (nI k) (nI 1) f n (nI i) a1 a2 a3 s a5 a6 a7 a8 a9 a10 a11 a12 a13) (fun i s => 0 < i → s 0 = a2 (4 * k)) 6 0 a4 (by omega) (fun h => absurd h (by omega)) (fun n s h => pk_le 6 6 (fun _ => H s (h (by omega))) (fun z => absurd z (by omega))) ?_)⟩
  intro n i s hi h hw
  refine pk_le 6 i (fun z => absurd z (by omega)) (fun _ => pk_le 1 i (fun z => ?_) (fun z => ?_))
  · refine ⟨pk_in i 6 hi, nm_e (nm_r (nI_1 i) (hw _ (fun _ => ?_)))⟩
    rw [nI_clamp (by omega), pk_un (by omega)]
    exact h (by omega)
  · have e : i = 0 := by omega
    subst e
    refine ⟨pk_in (4 * k) 12 (by omega) (rt_410 k), pk_in 0 6 (by omega), nm_e (nm_r (nI_1 0) (hw _ (fun _ => ?_)))⟩
    rw [rt_410, nI_clamp (by omega), nI_clamp (by omega)]
    exact pk_us
theorem rt_q172_2 {post : St2 → Prop} {a1 a2 a3 a4 a5 a6 a7 a8 a9 a10 a11 a12 a13 : Nat → Int32} {z : Nat} (hz : z ≤ 5) (H : ∀ b6 : Nat → Int32, (∀ j, j < z → b6 j = a8 j) → post (nI z, a1, a2, a3, a4, a5, b6, a7, a8, a9, a10, a11, a12, a13)) : ∃ n, wX_squarePower_2_172 post (nI z) n 0 a1 a2 a3 a4 a5 a6 a7 a8 a9 a10 a11 a12 a13 :=
  pk_loop (fun n i s => wX_squarePower_2_172 post (nI z) n (nI i) a1 a2 a3 a4 a5 s a7 a8 a9 a10 a11 a12 a13) (fun i s => ∀ j, j < i → s j = a8 j) z 0 a6 (by omega) (fun j hj => absurd hj (by omega))
    (fun n s h => pk_le z z (fun _ => H s h) (fun c => absurd c (by omega)))
    (fun n i s hi h hw => pk_le z i (fun c => absurd c (by omega)) (fun _ => ⟨pk_in i 10 (by omega), pk_in i 5 (by omega), nm_e (nm_r (nI_1 i) (hw _ (rt_fill (nI_clamp (by omega)) h (by rw [nI_clamp (by omega)]))))⟩))
theorem rt_q2_2 {post : St2 → Prop} {f : Int32} {a1 a2 a3 a4 a5 a6 a7 a8 a9 a10 a11 a12 a13 : Nat → Int32} (H : ∀ b8 : Nat → Int32, (∀ j, j < 10 → b8 j = nI 0) → ∃ n, wX_squarePower_2_23 post f n 0 a1 a2 a3 a4 a5 a6 a7 b8 a9 a10 a11 a12 a13) : wpX_squarePower_2 post (f, a1, a2, a3, a4, a5, a6, a7, a8, a9, a10, a11, a12, a13) :=
  pk_loop (fun n i s => wX_squarePower_2_2 post f n (nI i) a1 a2 a3 a4 a5 a6 a7 s a9 a10 a11 a12 a13) (fun i s => ∀ j, j < i → s j = nI 0) 10 0 a8 (by omega) (fun j hj => absurd hj (by omega))
    (fun n s h => pk_le 10 10 (fun _ => H s h) (fun c => absurd c (by omega)))
    (fun n i s hi h hw => pk_le 10 i (fun c => absurd c (by omega)) (fun _ => ⟨pk_in i 10 (by omega), nm_e (nm_r (nI_1 i) (hw _ (rt_fill (f := fun _ => nI 0) (nI_clamp (by omega)) h rfl)))⟩))
theorem rt_q33s_2 {post : St2 → Prop} {J : Int32 → (Nat → Int32) → (Nat → Int32) → (Nat → Int32) → (Nat → Int32) → (Nat → Int32) → (Nat → Int32) → (Nat → Int32) → (Nat → Int32) → (Nat → Int32) → (Nat → Int32) → (Nat → Int32) → (Nat → Int32) → (Nat → Int32) → Prop} {a1 a2 a3 a4 a5 a6 a7 a8 a9 a10 a11 a12 a13 : Nat → Int32} {n z i j P p q : Nat} (hz : z ≤ 5) (hi : i < z) (hj : j < z) (hP : a8 (i + j) = nI P) (hp : a6 i = nI p) (hq : a6 j = nI q) (lP : P < 1000) (lp : p < 1000) (lq : q < 1000)
    (hw : wX_squarePower_2_33 post J (nI i) (nI z) n (nI (j + 1)) a1 a2 a3 a4 a5 a6 a7 (upd a8 (i + j) (nI ((P + p * q) % 997))) a9 a10 a11 a12 a13) : wX_squarePower_2_33 post J (nI i) (nI z) (n + 1) (nI j) a1 a2 a3 a4 a5 a6 a7 a8 a9 a10 a11 a12 a13 := by
  refine pk_le z j (fun c => absurd c (by omega)) (fun _ => ⟨pk_in (i + j) 10 (by omega) (nI_add i j), pk_in i 5 (by omega), pk_in j 5 (by omega), rt_997, pk_in (i + j) 10 (by omega) (nI_add i j), nm_r (e' := upd a8 (i + j) (nI ((P + p * q) % 997))) ?_ (nm_r (nI_1 j) hw)⟩)
  rw [nI_add, nI_clamp (by omega), nI_clamp (by omega), nI_clamp (by omega), rt_ma hP hp hq lP lp lq]
theorem rt_q33x_2 {post : St2 → Prop} {J : Int32 → (Nat → Int32) → (Nat → Int32) → (Nat → Int32) → (Nat → Int32) → (Nat → Int32) → (Nat → Int32) → (Nat → Int32) → (Nat → Int32) → (Nat → Int32) → (Nat → Int32) → (Nat → Int32) → (Nat → Int32) → (Nat → Int32) → Prop} {a1 a2 a3 a4 a5 a6 a7 a8 a9 a10 a11 a12 a13 : Nat → Int32} {n z i : Nat} (hz : z ≤ 5) (hw : J (nI (i + 1)) a1 a2 a3 a4 a5 a6 a7 a8 a9 a10 a11 a12 a13) : wX_squarePower_2_33 post J (nI i) (nI z) (n + 1) (nI z) a1 a2 a3 a4 a5 a6 a7 a8 a9 a10 a11 a12 a13 :=
  pk_le z z (fun _ => nm_r (nI_1 i) hw) (fun c => absurd c (by omega))
theorem rt_sq1_2 {post : St2 → Prop} {a1 a2 a3 a4 a5 a6 a7 a8 a9 a10 a11 a12 a13 : Nat → Int32} {p : Nat} (hp : p < 997) (h6 : a6 0 = nI p) (H : ∀ b6 b8 : Nat → Int32, b6 0 = nI (p * p % 997) → post (nI 1, a1, a2, a3, a4, a5, b6, a7, b8, a9, a10, a11, a12, a13)) : wpX_squarePower_2 post (nI 1, a1, a2, a3, a4, a5, a6, a7, a8, a9, a10, a11, a12, a13) := by
  refine rt_q2_2 (fun b8 h8 => ⟨0 + 1 + 1, ?_⟩)
  refine pk_le 1 0 (fun c => absurd c (by omega)) (fun _ => ⟨0 + 1 + 1, ?_⟩)
  refine rt_q33s_2 (z := 1) (i := 0) (j := 0) (P := 0) (p := p) (q := p) (by omega) (by omega) (by omega) (h8 0 (by omega)) h6 h6 (by omega) (by omega) (by omega) ?_
  refine rt_q33x_2 (z := 1) (i := 0) (by omega) ?_
  refine pk_le 1 1 (fun _ => nm_r (e' := nI 0) (by decide) ⟨0 + 1, pk_lt 0 1 (fun _ => rt_q172_2 (z := 1) (by omega) (fun b6 e6 => H b6 _ ?_)) (fun c => absurd c (by omega))⟩) (fun c => absurd c (by omega))
  rw [e6 0 (by omega)]
  refine pk_us.trans ?_
  rw [Nat.zero_add]
theorem rt_tx0_2 {post : St2 → Prop} {a1 a2 a3 a4 a5 a6 a7 a8 a9 a10 a11 a12 a13 : Nat → Int32} {n z t m : Nat} (h4 : a4 0 = nI m) (ht : t < 1000) (hm : m < 1000) (H : post (nI z, a1, a2, a3, a4, a5, upd a6 0 (nI (t * m % 997)), a7, a8, a9, a10, a11, a12, a13)) : wX_timesX_2_19 post (nI t) (nI z) (n + 1 + 1) (nI 0) a1 a2 a3 a4 a5 a6 a7 a8 a9 a10 a11 a12 a13 := by
  refine br_f (by decide) (pk_le 0 0 (fun _ => ⟨pk_in 0 6 (by omega), rt_997, pk_in 0 5 (by omega), nm_r (e' := upd a6 0 (nI (t * m % 997))) ?_ (nm_e (br_t (by decide) H))⟩) (fun c => absurd c (by omega)))
  rw [nI_clamp (by omega), rt_m0 rfl h4 ht hm]
theorem rt_tx1_2 {post : St2 → Prop} {a1 a2 a3 a4 a5 a6 a7 a8 a9 a10 a11 a12 a13 : Nat → Int32} {p m : Nat} (h6 : a6 0 = nI p) (h4 : a4 0 = nI m) (hp : p < 1000) (hm : m < 1000) (H : ∀ b6 : Nat → Int32, b6 0 = nI (p * m % 997) → post (nI 1, a1, a2, a3, a4, a5, b6, a7, a8, a9, a10, a11, a12, a13)) : wpX_timesX_2 post (nI 1, a1, a2, a3, a4, a5, a6, a7, a8, a9, a10, a11, a12, a13) :=
  ⟨pk_in 0 5 (by omega) (by decide), nm_r (e' := nI p) h6 (nm_r (e' := nI 0) (by decide) ⟨0 + 1 + 1, rt_tx0_2 h4 hp hm (H _ pk_us)⟩)⟩
theorem rt_ra2_2 {post : St2 → Prop} {a1 a2 a3 a4 a5 a6 a7 a8 a9 a10 a11 a12 a13 : Nat → Int32} {x : Int32} {z : Nat} (hz : 0 < z) (hz5 : z ≤ 5) (H : ∀ b6 : Nat → Int32, b6 0 = nI 1 → b6 1 = nI 0 → ∃ n, wX_raise_2_38 post x n 30 (nI z) a1 a2 a3 a4 a5 b6 a7 a8 a9 a10 a11 a12 a13) : wpX_raise_2 post (nI z, a1, a2, a3, a4, a5, a6, a7, a8, a9, a10, a11, a12, a13) x := by
  refine pk_loop (fun n i s => wX_raise_2_2 post x (nI z) n (nI i) a1 a2 a3 a4 a5 s a7 a8 a9 a10 a11 a12 a13) (fun i s => (0 < i → s 0 = nI 1) ∧ (1 < i → s 1 = nI 0)) 5 0 a6 (by omega) ⟨fun h => absurd h (by omega), fun h => absurd h (by omega)⟩ (fun n s h => pk_le 5 5 (fun _ => H s (h.1 (by omega)) (h.2 (by omega))) (fun c => absurd c (by omega))) ?_
  intro n i s hi h hw
  refine pk_le 5 i (fun c => absurd c (by omega)) (fun _ => pk_eq i 0 (fun e => ?_) (fun e => ?_))
  · subst e
    refine pk_le z 0 (fun c => absurd c (by omega)) (fun _ => ⟨pk_in 0 5 (by omega), nm_e (nm_r (nI_1 0) (hw _ ⟨fun _ => ?_, fun c => absurd c (by omega)⟩))⟩)
    rw [nI_clamp (by omega)]
    exact pk_us
  · refine ⟨pk_in i 5 (by omega), nm_e (nm_r (nI_1 i) (hw _ ⟨fun _ => ?_, fun c => ?_⟩))⟩
    · rw [nI_clamp (by omega), pk_un (by omega)]
      exact h.1 (by omega)
    · rw [nI_clamp (by omega)]
      by_cases e1 : i = 1
      · subst e1
        exact pk_us
      · rw [pk_un (by omega)]
        exact h.2 (by omega)
theorem rt_r38_2 {post : St2 → Prop} {a1 a2 a3 a4 a5 a6 a7 a8 a9 a10 a11 a12 a13 : Nat → Int32} {N n j p r : Nat} (hN : N < 2 ^ 31) (hj : j < 31) (hp : p < 997) (hr : r < 997) (h4 : a4 0 = nI r) (h6 : a6 0 = nI p) (hw : ∀ b6 b8 : Nat → Int32, b6 0 = nI (if N / 2 ^ j % 2 = 1 then p * p % 997 * r % 997 else p * p % 997) → wX_raise_2_38 post (nI N) n (nI j + (-1)) (nI 1) a1 a2 a3 a4 a5 b6 a7 b8 a9 a10 a11 a12 a13) : wX_raise_2_38 post (nI N) (n + 1) (nI (j + 1) + (-1)) (nI 1) a1 a2 a3 a4 a5 a6 a7 a8 a9 a10 a11 a12 a13 := by
  rw [pk_m1]
  refine pk_lt j 0 (fun c => absurd c (by omega)) (fun _ => pk_le 1 0 (fun c => absurd c (by omega)) (fun _ => rt_sq1_2 hp h6 (fun b6 b8 e => ek_if (rt_bit hN hj) (fun hb => ?_) (fun hb => ?_))))
  · refine rt_tx1_2 e h4 (rt_m9 _) (by omega) (fun c6 e' => nm_e (hw c6 b8 ?_))
    rw [if_pos hb]
    exact e'
  · refine nm_e (hw b6 b8 ?_)
    rw [if_neg hb]
    exact e
theorem rt_raise_2 {post : St2 → Prop} {a1 a2 a3 a4 a5 a6 a7 a8 a9 a10 a11 a12 a13 : Nat → Int32} {N r : Nat} (hN : N < 2 ^ 31) (hr : r < 997) (h4 : a4 0 = nI r) (H : ∀ b6 b8 : Nat → Int32, b6 0 = nI (r ^ N % 997) → post (nI 1, a1, a2, a3, a4, a5, b6, a7, b8, a9, a10, a11, a12, a13)) : wpX_raise_2 post (nI 1, a1, a2, a3, a4, a5, a6, a7, a8, a9, a10, a11, a12, a13) (nI N) := by
  refine rt_ra2_2 (z := 1) (by omega) (by omega) (fun b6 e6 _ => ⟨31 + 1, ?_⟩)
  refine pk_loopD (σ := (Nat → Int32) × (Nat → Int32)) (fun n j s => j ≤ 31 → wX_raise_2_38 post (nI N) n (nI j + (-1)) (nI 1) a1 a2 a3 a4 a5 s.1 a7 s.2 a9 a10 a11 a12 a13) (fun j s => s.1 0 = nI (r ^ (N / 2 ^ j) % 997)) ?_ ?_ 31 (b6, a8) ?_ (Nat.le_refl 31)
  · intro n s h _
    rw [Nat.pow_zero, Nat.div_one] at h
    exact br_t (by decide) (H _ _ h)
  · intro n j s h hw hj
    refine rt_r38_2 hN (by omega) (Nat.mod_lt _ (by decide)) hr h4 h (fun c6 c8 e => hw (c6, c8) ?_ (by omega))
    rw [rt_rstep] at e
    exact e
  · show b6 0 = _
    rw [e6, Nat.div_eq_of_lt hN]
    rfl
theorem rt_term_2 {post : Int32 → St2 → Prop} {f : Int32} {a1 a2 a3 a4 a5 a6 a7 a8 a9 a10 a11 a12 a13 : Nat → Int32} {k n r a : Nat} (hk : k < 3) (hn : n < 2 ^ 31) (hr : r < 997) (ha : a < 997) (h1 : a1 k = nI 1) (h2 : a2 (4 * k) = nI r) (h3 : a3 (4 * k) = nI a) (H : ∀ (g : Int32) (b4 b6 b8 : Nat → Int32), post (nI (a * r ^ n % 997)) (g, a1, a2, a3, b4, a5, b6, a7, b8, a9, a10, a11, a12, a13)) : wpX_termAt_2 post (f, a1, a2, a3, a4, a5, a6, a7, a8, a9, a10, a11, a12, a13) (nI k) (nI n) := by
  refine ⟨pk_in k 3 hk, nm_r (e' := nI 1) (by rw [nI_clamp (by omega)]; exact h1) (pk_le 1 n (fun c => ?_) (fun c => ?_))⟩
  · refine rt_take_2 hk h1 (fun b4 e4 => rt_raise_2 hn hr (e4.trans h2) (fun b6 b8 e6 => ⟨0 + 1 + 1, ?_⟩))
    refine pk_le 1 0 (fun c => absurd c (by omega)) (fun _ => ⟨pk_in 0 5 (by omega), pk_in (4 * k) 12 (by omega) (rt_4 k 0), rt_997, nm_r (e' := nI (a * r ^ n % 997)) ?_ (nm_r (nI_1 0) (pk_le 1 1 (fun _ => H _ _ _ _) (fun c => absurd c (by omega))))⟩)
    have e7 : b6 (0 : Int32).toNatClampNeg = nI (r ^ n % 997) := e6
    have e8 : a3 (4 * nI k + 0).toNatClampNeg = nI a := by
      rw [Int32.add_zero, show (4 : Int32) = nI 4 from rfl, pk_mul, nI_clamp (by omega)]
      exact h3
    rw [rt_m0 e7 e8 (rt_m9 _) (by omega), Nat.mod_mul_mod, Nat.mul_comm]
  · have e : n = 0 := by omega
    subst e
    refine ⟨pk_in (4 * k) 12 (by omega) (rt_4 k 0), ?_⟩
    have e8 : a3 (4 * nI k + nI 0).toNatClampNeg = nI (a * r ^ 0 % 997) := by
      rw [rt_4, Nat.add_zero, nI_clamp (by omega), Nat.pow_zero, Nat.mul_one, Nat.mod_eq_of_lt ha]
      exact h3
    rw [e8]
    exact H f a4 a6 a8
theorem rt_take_3 {post : St2 → Prop} {f : Int32} {a1 a2 a3 a4 a5 a6 a7 a8 a9 a10 a11 a12 a13 : Nat → Int32} {k : Nat} (hk : k < 3) (h1 : a1 k = nI 1) (H : ∀ b4 : Nat → Int32, b4 0 = a2 (4 * k) → post (f, a1, a2, a3, b4, a5, a6, a7, a8, a9, a10, a11, a12, a13)) : wpX_takeRule_3 post (f, a1, a2, a3, a4, a5, a6, a7, a8, a9, a10, a11, a12, a13) (nI k) := by
  refine ⟨pk_in k 3 hk, nm_r (e' := nI 1) (by rw [nI_clamp (by omega)]; exact h1) (pk_loop (fun n i s => wX_takeRule_3_9 post (nI k) (nI 1) f n (nI i) a1 a2 a3 s a5 a6 a7 a8 a9 a10 a11 a12 a13) (fun i s => 0 < i → s 0 = a2 (4 * k)) 6 0 a4 (by omega) (fun h => absurd h (by omega)) (fun n s h => pk_le 6 6 (fun _ => H s (h (by omega))) (fun z => absurd z (by omega))) ?_)⟩
  intro n i s hi h hw
  refine pk_le 6 i (fun z => absurd z (by omega)) (fun _ => pk_le 1 i (fun z => ?_) (fun z => ?_))
  · refine ⟨pk_in i 6 hi, nm_e (nm_r (nI_1 i) (hw _ (fun _ => ?_)))⟩
    rw [nI_clamp (by omega), pk_un (by omega)]
    exact h (by omega)
  · have e : i = 0 := by omega
    subst e
    refine ⟨pk_in (4 * k) 12 (by omega) (rt_410 k), pk_in 0 6 (by omega), nm_e (nm_r (nI_1 0) (hw _ (fun _ => ?_)))⟩
    rw [rt_410, nI_clamp (by omega), nI_clamp (by omega)]
    exact pk_us
theorem rt_q172_3 {post : St2 → Prop} {a1 a2 a3 a4 a5 a6 a7 a8 a9 a10 a11 a12 a13 : Nat → Int32} {z : Nat} (hz : z ≤ 5) (H : ∀ b6 : Nat → Int32, (∀ j, j < z → b6 j = a8 j) → post (nI z, a1, a2, a3, a4, a5, b6, a7, a8, a9, a10, a11, a12, a13)) : ∃ n, wX_squarePower_3_172 post (nI z) n 0 a1 a2 a3 a4 a5 a6 a7 a8 a9 a10 a11 a12 a13 :=
  pk_loop (fun n i s => wX_squarePower_3_172 post (nI z) n (nI i) a1 a2 a3 a4 a5 s a7 a8 a9 a10 a11 a12 a13) (fun i s => ∀ j, j < i → s j = a8 j) z 0 a6 (by omega) (fun j hj => absurd hj (by omega))
    (fun n s h => pk_le z z (fun _ => H s h) (fun c => absurd c (by omega)))
    (fun n i s hi h hw => pk_le z i (fun c => absurd c (by omega)) (fun _ => ⟨pk_in i 10 (by omega), pk_in i 5 (by omega), nm_e (nm_r (nI_1 i) (hw _ (rt_fill (nI_clamp (by omega)) h (by rw [nI_clamp (by omega)]))))⟩))
theorem rt_q2_3 {post : St2 → Prop} {f : Int32} {a1 a2 a3 a4 a5 a6 a7 a8 a9 a10 a11 a12 a13 : Nat → Int32} (H : ∀ b8 : Nat → Int32, (∀ j, j < 10 → b8 j = nI 0) → ∃ n, wX_squarePower_3_23 post f n 0 a1 a2 a3 a4 a5 a6 a7 b8 a9 a10 a11 a12 a13) : wpX_squarePower_3 post (f, a1, a2, a3, a4, a5, a6, a7, a8, a9, a10, a11, a12, a13) :=
  pk_loop (fun n i s => wX_squarePower_3_2 post f n (nI i) a1 a2 a3 a4 a5 a6 a7 s a9 a10 a11 a12 a13) (fun i s => ∀ j, j < i → s j = nI 0) 10 0 a8 (by omega) (fun j hj => absurd hj (by omega))
    (fun n s h => pk_le 10 10 (fun _ => H s h) (fun c => absurd c (by omega)))
    (fun n i s hi h hw => pk_le 10 i (fun c => absurd c (by omega)) (fun _ => ⟨pk_in i 10 (by omega), nm_e (nm_r (nI_1 i) (hw _ (rt_fill (f := fun _ => nI 0) (nI_clamp (by omega)) h rfl)))⟩))
theorem rt_q33s_3 {post : St2 → Prop} {J : Int32 → (Nat → Int32) → (Nat → Int32) → (Nat → Int32) → (Nat → Int32) → (Nat → Int32) → (Nat → Int32) → (Nat → Int32) → (Nat → Int32) → (Nat → Int32) → (Nat → Int32) → (Nat → Int32) → (Nat → Int32) → (Nat → Int32) → Prop} {a1 a2 a3 a4 a5 a6 a7 a8 a9 a10 a11 a12 a13 : Nat → Int32} {n z i j P p q : Nat} (hz : z ≤ 5) (hi : i < z) (hj : j < z) (hP : a8 (i + j) = nI P) (hp : a6 i = nI p) (hq : a6 j = nI q) (lP : P < 1000) (lp : p < 1000) (lq : q < 1000)
    (hw : wX_squarePower_3_33 post J (nI i) (nI z) n (nI (j + 1)) a1 a2 a3 a4 a5 a6 a7 (upd a8 (i + j) (nI ((P + p * q) % 997))) a9 a10 a11 a12 a13) : wX_squarePower_3_33 post J (nI i) (nI z) (n + 1) (nI j) a1 a2 a3 a4 a5 a6 a7 a8 a9 a10 a11 a12 a13 := by
  refine pk_le z j (fun c => absurd c (by omega)) (fun _ => ⟨pk_in (i + j) 10 (by omega) (nI_add i j), pk_in i 5 (by omega), pk_in j 5 (by omega), rt_997, pk_in (i + j) 10 (by omega) (nI_add i j), nm_r (e' := upd a8 (i + j) (nI ((P + p * q) % 997))) ?_ (nm_r (nI_1 j) hw)⟩)
  rw [nI_add, nI_clamp (by omega), nI_clamp (by omega), nI_clamp (by omega), rt_ma hP hp hq lP lp lq]
theorem rt_q33x_3 {post : St2 → Prop} {J : Int32 → (Nat → Int32) → (Nat → Int32) → (Nat → Int32) → (Nat → Int32) → (Nat → Int32) → (Nat → Int32) → (Nat → Int32) → (Nat → Int32) → (Nat → Int32) → (Nat → Int32) → (Nat → Int32) → (Nat → Int32) → (Nat → Int32) → Prop} {a1 a2 a3 a4 a5 a6 a7 a8 a9 a10 a11 a12 a13 : Nat → Int32} {n z i : Nat} (hz : z ≤ 5) (hw : J (nI (i + 1)) a1 a2 a3 a4 a5 a6 a7 a8 a9 a10 a11 a12 a13) : wX_squarePower_3_33 post J (nI i) (nI z) (n + 1) (nI z) a1 a2 a3 a4 a5 a6 a7 a8 a9 a10 a11 a12 a13 :=
  pk_le z z (fun _ => nm_r (nI_1 i) hw) (fun c => absurd c (by omega))
theorem rt_sq1_3 {post : St2 → Prop} {a1 a2 a3 a4 a5 a6 a7 a8 a9 a10 a11 a12 a13 : Nat → Int32} {p : Nat} (hp : p < 997) (h6 : a6 0 = nI p) (H : ∀ b6 b8 : Nat → Int32, b6 0 = nI (p * p % 997) → post (nI 1, a1, a2, a3, a4, a5, b6, a7, b8, a9, a10, a11, a12, a13)) : wpX_squarePower_3 post (nI 1, a1, a2, a3, a4, a5, a6, a7, a8, a9, a10, a11, a12, a13) := by
  refine rt_q2_3 (fun b8 h8 => ⟨0 + 1 + 1, ?_⟩)
  refine pk_le 1 0 (fun c => absurd c (by omega)) (fun _ => ⟨0 + 1 + 1, ?_⟩)
  refine rt_q33s_3 (z := 1) (i := 0) (j := 0) (P := 0) (p := p) (q := p) (by omega) (by omega) (by omega) (h8 0 (by omega)) h6 h6 (by omega) (by omega) (by omega) ?_
  refine rt_q33x_3 (z := 1) (i := 0) (by omega) ?_
  refine pk_le 1 1 (fun _ => nm_r (e' := nI 0) (by decide) ⟨0 + 1, pk_lt 0 1 (fun _ => rt_q172_3 (z := 1) (by omega) (fun b6 e6 => H b6 _ ?_)) (fun c => absurd c (by omega))⟩) (fun c => absurd c (by omega))
  rw [e6 0 (by omega)]
  refine pk_us.trans ?_
  rw [Nat.zero_add]
theorem rt_tx0_3 {post : St2 → Prop} {a1 a2 a3 a4 a5 a6 a7 a8 a9 a10 a11 a12 a13 : Nat → Int32} {n z t m : Nat} (h4 : a4 0 = nI m) (ht : t < 1000) (hm : m < 1000) (H : post (nI z, a1, a2, a3, a4, a5, upd a6 0 (nI (t * m % 997)), a7, a8, a9, a10, a11, a12, a13)) : wX_timesX_3_19 post (nI t) (nI z) (n + 1 + 1) (nI 0) a1 a2 a3 a4 a5 a6 a7 a8 a9 a10 a11 a12 a13 := by
  refine br_f (by decide) (pk_le 0 0 (fun _ => ⟨pk_in 0 6 (by omega), rt_997, pk_in 0 5 (by omega), nm_r (e' := upd a6 0 (nI (t * m % 997))) ?_ (nm_e (br_t (by decide) H))⟩) (fun c => absurd c (by omega)))
  rw [nI_clamp (by omega), rt_m0 rfl h4 ht hm]
theorem rt_tx1_3 {post : St2 → Prop} {a1 a2 a3 a4 a5 a6 a7 a8 a9 a10 a11 a12 a13 : Nat → Int32} {p m : Nat} (h6 : a6 0 = nI p) (h4 : a4 0 = nI m) (hp : p < 1000) (hm : m < 1000) (H : ∀ b6 : Nat → Int32, b6 0 = nI (p * m % 997) → post (nI 1, a1, a2, a3, a4, a5, b6, a7, a8, a9, a10, a11, a12, a13)) : wpX_timesX_3 post (nI 1, a1, a2, a3, a4, a5, a6, a7, a8, a9, a10, a11, a12, a13) :=
  ⟨pk_in 0 5 (by omega) (by decide), nm_r (e' := nI p) h6 (nm_r (e' := nI 0) (by decide) ⟨0 + 1 + 1, rt_tx0_3 h4 hp hm (H _ pk_us)⟩)⟩
theorem rt_ra2_3 {post : St2 → Prop} {a1 a2 a3 a4 a5 a6 a7 a8 a9 a10 a11 a12 a13 : Nat → Int32} {x : Int32} {z : Nat} (hz : 0 < z) (hz5 : z ≤ 5) (H : ∀ b6 : Nat → Int32, b6 0 = nI 1 → b6 1 = nI 0 → ∃ n, wX_raise_3_38 post x n 30 (nI z) a1 a2 a3 a4 a5 b6 a7 a8 a9 a10 a11 a12 a13) : wpX_raise_3 post (nI z, a1, a2, a3, a4, a5, a6, a7, a8, a9, a10, a11, a12, a13) x := by
  refine pk_loop (fun n i s => wX_raise_3_2 post x (nI z) n (nI i) a1 a2 a3 a4 a5 s a7 a8 a9 a10 a11 a12 a13) (fun i s => (0 < i → s 0 = nI 1) ∧ (1 < i → s 1 = nI 0)) 5 0 a6 (by omega) ⟨fun h => absurd h (by omega), fun h => absurd h (by omega)⟩ (fun n s h => pk_le 5 5 (fun _ => H s (h.1 (by omega)) (h.2 (by omega))) (fun c => absurd c (by omega))) ?_
  intro n i s hi h hw
  refine pk_le 5 i (fun c => absurd c (by omega)) (fun _ => pk_eq i 0 (fun e => ?_) (fun e => ?_))
  · subst e
    refine pk_le z 0 (fun c => absurd c (by omega)) (fun _ => ⟨pk_in 0 5 (by omega), nm_e (nm_r (nI_1 0) (hw _ ⟨fun _ => ?_, fun c => absurd c (by omega)⟩))⟩)
    rw [nI_clamp (by omega)]
    exact pk_us
  · refine ⟨pk_in i 5 (by omega), nm_e (nm_r (nI_1 i) (hw _ ⟨fun _ => ?_, fun c => ?_⟩))⟩
    · rw [nI_clamp (by omega), pk_un (by omega)]
      exact h.1 (by omega)
    · rw [nI_clamp (by omega)]
      by_cases e1 : i = 1
      · subst e1
        exact pk_us
      · rw [pk_un (by omega)]
        exact h.2 (by omega)
theorem rt_r38_3 {post : St2 → Prop} {a1 a2 a3 a4 a5 a6 a7 a8 a9 a10 a11 a12 a13 : Nat → Int32} {N n j p r : Nat} (hN : N < 2 ^ 31) (hj : j < 31) (hp : p < 997) (hr : r < 997) (h4 : a4 0 = nI r) (h6 : a6 0 = nI p) (hw : ∀ b6 b8 : Nat → Int32, b6 0 = nI (if N / 2 ^ j % 2 = 1 then p * p % 997 * r % 997 else p * p % 997) → wX_raise_3_38 post (nI N) n (nI j + (-1)) (nI 1) a1 a2 a3 a4 a5 b6 a7 b8 a9 a10 a11 a12 a13) : wX_raise_3_38 post (nI N) (n + 1) (nI (j + 1) + (-1)) (nI 1) a1 a2 a3 a4 a5 a6 a7 a8 a9 a10 a11 a12 a13 := by
  rw [pk_m1]
  refine pk_lt j 0 (fun c => absurd c (by omega)) (fun _ => pk_le 1 0 (fun c => absurd c (by omega)) (fun _ => rt_sq1_3 hp h6 (fun b6 b8 e => ek_if (rt_bit hN hj) (fun hb => ?_) (fun hb => ?_))))
  · refine rt_tx1_3 e h4 (rt_m9 _) (by omega) (fun c6 e' => nm_e (hw c6 b8 ?_))
    rw [if_pos hb]
    exact e'
  · refine nm_e (hw b6 b8 ?_)
    rw [if_neg hb]
    exact e
theorem rt_raise_3 {post : St2 → Prop} {a1 a2 a3 a4 a5 a6 a7 a8 a9 a10 a11 a12 a13 : Nat → Int32} {N r : Nat} (hN : N < 2 ^ 31) (hr : r < 997) (h4 : a4 0 = nI r) (H : ∀ b6 b8 : Nat → Int32, b6 0 = nI (r ^ N % 997) → post (nI 1, a1, a2, a3, a4, a5, b6, a7, b8, a9, a10, a11, a12, a13)) : wpX_raise_3 post (nI 1, a1, a2, a3, a4, a5, a6, a7, a8, a9, a10, a11, a12, a13) (nI N) := by
  refine rt_ra2_3 (z := 1) (by omega) (by omega) (fun b6 e6 _ => ⟨31 + 1, ?_⟩)
  refine pk_loopD (σ := (Nat → Int32) × (Nat → Int32)) (fun n j s => j ≤ 31 → wX_raise_3_38 post (nI N) n (nI j + (-1)) (nI 1) a1 a2 a3 a4 a5 s.1 a7 s.2 a9 a10 a11 a12 a13) (fun j s => s.1 0 = nI (r ^ (N / 2 ^ j) % 997)) ?_ ?_ 31 (b6, a8) ?_ (Nat.le_refl 31)
  · intro n s h _
    rw [Nat.pow_zero, Nat.div_one] at h
    exact br_t (by decide) (H _ _ h)
  · intro n j s h hw hj
    refine rt_r38_3 hN (by omega) (Nat.mod_lt _ (by decide)) hr h4 h (fun c6 c8 e => hw (c6, c8) ?_ (by omega))
    rw [rt_rstep] at e
    exact e
  · show b6 0 = _
    rw [e6, Nat.div_eq_of_lt hN]
    rfl
theorem rt_term_3 {post : Int32 → St2 → Prop} {f : Int32} {a1 a2 a3 a4 a5 a6 a7 a8 a9 a10 a11 a12 a13 : Nat → Int32} {k n r a : Nat} (hk : k < 3) (hn : n < 2 ^ 31) (hr : r < 997) (ha : a < 997) (h1 : a1 k = nI 1) (h2 : a2 (4 * k) = nI r) (h3 : a3 (4 * k) = nI a) (H : ∀ (g : Int32) (b4 b6 b8 : Nat → Int32), post (nI (a * r ^ n % 997)) (g, a1, a2, a3, b4, a5, b6, a7, b8, a9, a10, a11, a12, a13)) : wpX_termAt_3 post (f, a1, a2, a3, a4, a5, a6, a7, a8, a9, a10, a11, a12, a13) (nI k) (nI n) := by
  refine ⟨pk_in k 3 hk, nm_r (e' := nI 1) (by rw [nI_clamp (by omega)]; exact h1) (pk_le 1 n (fun c => ?_) (fun c => ?_))⟩
  · refine rt_take_3 hk h1 (fun b4 e4 => rt_raise_3 hn hr (e4.trans h2) (fun b6 b8 e6 => ⟨0 + 1 + 1, ?_⟩))
    refine pk_le 1 0 (fun c => absurd c (by omega)) (fun _ => ⟨pk_in 0 5 (by omega), pk_in (4 * k) 12 (by omega) (rt_4 k 0), rt_997, nm_r (e' := nI (a * r ^ n % 997)) ?_ (nm_r (nI_1 0) (pk_le 1 1 (fun _ => H _ _ _ _) (fun c => absurd c (by omega))))⟩)
    have e7 : b6 (0 : Int32).toNatClampNeg = nI (r ^ n % 997) := e6
    have e8 : a3 (4 * nI k + 0).toNatClampNeg = nI a := by
      rw [Int32.add_zero, show (4 : Int32) = nI 4 from rfl, pk_mul, nI_clamp (by omega)]
      exact h3
    rw [rt_m0 e7 e8 (rt_m9 _) (by omega), Nat.mod_mul_mod, Nat.mul_comm]
  · have e : n = 0 := by omega
    subst e
    refine ⟨pk_in (4 * k) 12 (by omega) (rt_4 k 0), ?_⟩
    have e8 : a3 (4 * nI k + nI 0).toNatClampNeg = nI (a * r ^ 0 % 997) := by
      rw [rt_4, Nat.add_zero, nI_clamp (by omega), Nat.pow_zero, Nat.mul_one, Nat.mod_eq_of_lt ha]
      exact h3
    rw [e8]
    exact H f a4 a6 a8
end
section
theorem rt_q106s {post : St2 → Prop} {J : Int32 → (Nat → Int32) → (Nat → Int32) → (Nat → Int32) → (Nat → Int32) → (Nat → Int32) → (Nat → Int32) → (Nat → Int32) → (Nat → Int32) → (Nat → Int32) → (Nat → Int32) → (Nat → Int32) → (Nat → Int32) → (Nat → Int32) → Prop} {a1 a2 a3 a4 a5 a6 a7 a8 a9 a10 a11 a12 a13 : Nat → Int32} {n z i j P p q : Nat} (hz : z ≤ 5) (hi : z ≤ i) (hi2 : i < 10) (hj : j < z) (hP : a8 (i - z + j) = nI P) (hp : a8 i = nI p) (hq : a4 j = nI q) (lP : P < 1000) (lp : p < 1000) (lq : q < 1000)
    (hw : wX_squarePower_106 post J (nI i) (nI z) n (nI (j + 1)) a1 a2 a3 a4 a5 a6 a7 (upd a8 (i - z + j) (nI ((P + p * q) % 997))) a9 a10 a11 a12 a13) : wX_squarePower_106 post J (nI i) (nI z) (n + 1) (nI j) a1 a2 a3 a4 a5 a6 a7 a8 a9 a10 a11 a12 a13 := by
  have e : nI i - nI z + nI j = nI (i - z + j) := by rw [pk_sub hi, nI_add]
  refine pk_le z j (fun c => absurd c (by omega)) (fun _ => ⟨pk_in (i - z + j) 10 (by omega) e, pk_in i 10 (by omega), pk_in j 6 (by omega), rt_997, pk_in (i - z + j) 10 (by omega) e, nm_r (e' := upd a8 (i - z + j) (nI ((P + p * q) % 997))) ?_ (nm_r (nI_1 j) hw)⟩)
  rw [e, nI_clamp (by omega), nI_clamp (by omega), nI_clamp (by omega), rt_ma hP hp hq lP lp lq]
theorem rt_q106x {post : St2 → Prop} {J : Int32 → (Nat → Int32) → (Nat → Int32) → (Nat → Int32) → (Nat → Int32) → (Nat → Int32) → (Nat → Int32) → (Nat → Int32) → (Nat → Int32) → (Nat → Int32) → (Nat → Int32) → (Nat → Int32) → (Nat → Int32) → (Nat → Int32) → Prop} {a1 a2 a3 a4 a5 a6 a7 a8 a9 a10 a11 a12 a13 : Nat → Int32} {n z i : Nat} (hz : z ≤ 5) (hw : J (nI i) a1 a2 a3 a4 a5 a6 a7 a8 a9 a10 a11 a12 a13) : wX_squarePower_106 post J (nI (i + 1)) (nI z) (n + 1) (nI z) a1 a2 a3 a4 a5 a6 a7 a8 a9 a10 a11 a12 a13 :=
  pk_le z z (fun _ => nm_r (pk_m1 i) hw) (fun c => absurd c (by omega))
/-- the square of p + q X modulo X X = m0 + m1 X -/
theorem rt_sq2 {post : St2 → Prop} {a1 a2 a3 a4 a5 a6 a7 a8 a9 a10 a11 a12 a13 : Nat → Int32} {p q m0 m1 : Nat} (hp : p < 997) (hq : q < 997) (hm0 : m0 < 997) (hm1 : m1 < 997) (h60 : a6 0 = nI p) (h61 : a6 1 = nI q) (h40 : a4 0 = nI m0) (h41 : a4 1 = nI m1)
    (H : ∀ b6 b8 : Nat → Int32, b6 0 = nI ((p * p % 997 + q * q % 997 * m0) % 997) → b6 1 = nI (((p * q % 997 + q * p) % 997 + q * q % 997 * m1) % 997) → post (nI 2, a1, a2, a3, a4, a5, b6, a7, b8, a9, a10, a11, a12, a13)) : wpX_squarePower post (nI 2, a1, a2, a3, a4, a5, a6, a7, a8, a9, a10, a11, a12, a13) := by
  refine rt_q2 (fun b8 h8 => ⟨0 + 1 + 1 + 1, ?_⟩)
  have z0 : b8 0 = nI 0 := h8 0 (by omega)
  have z1 : b8 1 = nI 0 := h8 1 (by omega)
  have z2 : b8 2 = nI 0 := h8 2 (by omega)
  refine pk_le 2 0 (fun c => absurd c (by omega)) (fun _ => ⟨0 + 1 + 1 + 1, ?_⟩)
  refine rt_q33s (z := 2) (i := 0) (j := 0) (P := 0) (p := p) (q := p) (by omega) (by omega) (by omega) z0 h60 h60 (by omega) (by omega) (by omega) ?_
  refine rt_q33s (z := 2) (i := 0) (j := 1) (P := 0) (p := p) (q := q) (by omega) (by omega) (by omega) z1 h60 h61 (by omega) (by omega) (by omega) ?_
  refine rt_q33x (z := 2) (i := 0) (by omega) ?_
  refine pk_le 2 1 (fun c => absurd c (by omega)) (fun _ => ⟨0 + 1 + 1 + 1, ?_⟩)
  refine rt_q33s (z := 2) (i := 1) (j := 0) (P := (0 + p * q) % 997) (p := q) (q := p) (by omega) (by omega) (by omega) rfl h61 h60 (rt_m9 _) (by omega) (by omega) ?_
  refine rt_q33s (z := 2) (i := 1) (j := 1) (P := 0) (p := q) (q := q) (by omega) (by omega) (by omega) z2 h61 h61 (by omega) (by omega) (by omega) ?_
  refine rt_q33x (z := 2) (i := 1) (by omega) ?_
  refine pk_le 2 2 (fun _ => nm_r (e' := nI 2) (by decide) ⟨0 + 1 + 1, ?_⟩) (fun c => absurd c (by omega))
  refine pk_lt 2 2 (fun c => absurd c (by omega)) (fun _ => ⟨0 + 1 + 1 + 1, ?_⟩)
  refine rt_q106s (z := 2) (i := 2) (j := 0) (P := (0 + p * p) % 997) (p := (0 + q * q) % 997) (q := m0) (by omega) (by omega) (by omega) (by omega) rfl rfl h40 (rt_m9 _) (rt_m9 _) (by omega) ?_
  refine rt_q106s (z := 2) (i := 2) (j := 1) (P := ((0 + p * q) % 997 + q * p) % 997) (p := (0 + q * q) % 997) (q := m1) (by omega) (by omega) (by omega) (by omega) rfl rfl h41 (rt_m9 _) (rt_m9 _) (by omega) ?_
  refine rt_q106x (z := 2) (i := 1) (by omega) ?_
  refine pk_lt 1 2 (fun _ => rt_q172 (z := 2) (by omega) (fun b6 e6 => H b6 _ ?_ ?_)) (fun c => absurd c (by omega))
  · rw [e6 0 (by omega)]
    show nI (((0 + p * p) % 997 + (0 + q * q) % 997 * m0) % 997) = _
    rw [Nat.zero_add, Nat.zero_add]
  · rw [e6 1 (by omega)]
    show nI ((((0 + p * q) % 997 + q * p) % 997 + (0 + q * q) % 997 * m1) % 997) = _
    rw [Nat.zero_add, Nat.zero_add]
/-- X times p + q X -/
theorem rt_tx2 {post : St2 → Prop} {a1 a2 a3 a4 a5 a6 a7 a8 a9 a10 a11 a12 a13 : Nat → Int32} {p q m0 m1 : Nat} (hp : p < 1000) (hq : q < 1000) (hm0 : m0 < 1000) (hm1 : m1 < 1000) (h60 : a6 0 = nI p) (h61 : a6 1 = nI q) (h40 : a4 0 = nI m0) (h41 : a4 1 = nI m1)
    (H : ∀ b6 : Nat → Int32, b6 0 = nI (q * m0 % 997) → b6 1 = nI ((p + q * m1) % 997) → post (nI 2, a1, a2, a3, a4, a5, b6, a7, a8, a9, a10, a11, a12, a13)) : wpX_timesX post (nI 2, a1, a2, a3, a4, a5, a6, a7, a8, a9, a10, a11, a12, a13) := by
  refine ⟨pk_in 1 5 (by omega) (by decide), nm_r (e' := nI q) h61 (nm_r (e' := nI 1) (by decide) ⟨0 + 1 + 1 + 1, ?_⟩)⟩
  refine br_f (by decide) (pk_le 1 0 (fun c => absurd c (by omega)) (fun _ => ⟨pk_in 0 5 (by omega) (by decide), pk_in 1 6 (by omega), rt_997, pk_in 1 5 (by omega), nm_r (e' := upd a6 1 (nI ((p + q * m1) % 997))) ?_ (nm_r (pk_m1 0) (rt_tx0 (z := 2) h40 hq hm0 (H _ rfl rfl)))⟩))
  have e6 : a6 (nI 1 - 1).toNatClampNeg = nI p := h60
  rw [nI_clamp (by omega), rt_ma e6 rfl h41 hp hq hm1]
/-- one bit of the exponent 3, size 2 -/
theorem rt_r2 {post : St2 → Prop} {a1 a2 a3 a4 a5 a6 a7 a8 a9 a10 a11 a12 a13 : Nat → Int32} {n j p q m0 m1 : Nat} (hj : j < 31) (hp : p < 997) (hq : q < 997) (hm0 : m0 < 997) (hm1 : m1 < 997) (h60 : a6 0 = nI p) (h61 : a6 1 = nI q) (h40 : a4 0 = nI m0) (h41 : a4 1 = nI m1)
    (hw1 : 3 / 2 ^ j % 2 = 1 → ∀ b6 b8 : Nat → Int32, b6 0 = nI (((p * q % 997 + q * p) % 997 + q * q % 997 * m1) % 997 * m0 % 997) → b6 1 = nI (((p * p % 997 + q * q % 997 * m0) % 997 + ((p * q % 997 + q * p) % 997 + q * q % 997 * m1) % 997 * m1) % 997) → wX_raise_38 post (nI 3) n (nI j + (-1)) (nI 2) a1 a2 a3 a4 a5 b6 a7 b8 a9 a10 a11 a12 a13)
    (hw0 : ¬ 3 / 2 ^ j % 2 = 1 → ∀ b6 b8 : Nat → Int32, b6 0 = nI ((p * p % 997 + q * q % 997 * m0) % 997) → b6 1 = nI (((p * q % 997 + q * p) % 997 + q * q % 997 * m1) % 997) → wX_raise_38 post (nI 3) n (nI j + (-1)) (nI 2) a1 a2 a3 a4 a5 b6 a7 b8 a9 a10 a11 a12 a13) : wX_raise_38 post (nI 3) (n + 1) (nI (j + 1) + (-1)) (nI 2) a1 a2 a3 a4 a5 a6 a7 a8 a9 a10 a11 a12 a13 := by
  rw [pk_m1]
  exact pk_lt j 0 (fun c => absurd c (by omega)) (fun _ => pk_le 2 0 (fun c => absurd c (by omega)) (fun _ => rt_sq2 hp hq hm0 hm1 h60 h61 h40 h41 (fun b6 b8 e0 e1 => ek_if (rt_bit (by omega) hj)
    (fun hb => rt_tx2 (rt_m9 _) (rt_m9 _) (by omega) (by omega) e0 e1 h40 h41 (fun c6 f0 f1 => nm_e (hw1 hb c6 b8 f0 f1)))
    (fun hb => nm_e (hw0 hb b6 b8 e0 e1)))))
theorem rt_hi : ∀ j, j < 31 → 2 ≤ j → ¬ 3 / 2 ^ j % 2 = 1 := by decide
theorem rt_s1 (m : Nat) : ((1 * 0 % 997 + 0 * 1) % 997 + 0 * 0 % 997 * m) % 997 = 0 := by simp
theorem rt_s2 (m : Nat) : (1 * 1 % 997 + 0 * 0 % 997 * m) % 997 = 1 := by simp
theorem rt_s3 {m : Nat} (h : m < 997) : ((0 * 1 % 997 + 1 * 0) % 997 + 1 * 1 % 997 * m) % 997 = m := by
  rw [show (0 * 1 % 997 + 1 * 0) % 997 + 1 * 1 % 997 * m = m by simp]
  exact Nat.mod_eq_of_lt h
theorem rt_s4 {m : Nat} (h : m < 997) : (0 * 0 % 997 + 1 * 1 % 997 * m) % 997 = m := by
  rw [show 0 * 0 % 997 + 1 * 1 % 997 * m = m by simp]
  exact Nat.mod_eq_of_lt h
theorem rt_r3lo {post : St2 → Prop} {a1 a2 a3 a4 a5 a6 a7 a8 a9 a10 a11 a12 a13 : Nat → Int32} {n m0 m1 : Nat} (hm0 : m0 < 997) (hm1 : m1 < 997) (h60 : a6 0 = nI 1) (h61 : a6 1 = nI 0) (h40 : a4 0 = nI m0) (h41 : a4 1 = nI m1) (H : ∀ b6 b8 : Nat → Int32, b6 0 = nI (m1 * m0 % 997) → b6 1 = nI ((m0 + m1 * m1) % 997) → post (nI 2, a1, a2, a3, a4, a5, b6, a7, b8, a9, a10, a11, a12, a13)) : wX_raise_38 post (nI 3) (n + 1 + 1 + 1) (nI 2 + (-1)) (nI 2) a1 a2 a3 a4 a5 a6 a7 a8 a9 a10 a11 a12 a13 := by
  refine rt_r2 (j := 1) (p := 1) (q := 0) (by omega) (by omega) (by omega) hm0 hm1 h60 h61 h40 h41 (fun _ b6 b8 e0 e1 => ?_) (fun c => absurd (by decide) c)
  rw [rt_s1, Nat.zero_mul, Nat.zero_mod] at e0
  rw [rt_s1, rt_s2, Nat.zero_mul, Nat.add_zero] at e1
  refine rt_r2 (j := 0) (p := 0) (q := 1) (by omega) (by omega) (by omega) hm0 hm1 e0 e1 h40 h41 (fun _ c6 c8 f0 f1 => ?_) (fun c => absurd (by decide) c)
  rw [rt_s3 hm1] at f0
  rw [rt_s3 hm1, rt_s4 hm0] at f1
  exact br_t (by decide) (H c6 c8 f0 f1)
theorem rt_r3hi {post : St2 → Prop} {a1 a2 a3 a4 a5 a7 a9 a10 a11 a12 a13 : Nat → Int32} {m0 m1 : Nat} (hm0 : m0 < 997) (hm1 : m1 < 997) (h40 : a4 0 = nI m0) (h41 : a4 1 = nI m1) (H : ∀ b6 b8 : Nat → Int32, b6 0 = nI (m1 * m0 % 997) → b6 1 = nI ((m0 + m1 * m1) % 997) → post (nI 2, a1, a2, a3, a4, a5, b6, a7, b8, a9, a10, a11, a12, a13)) : ∀ (j : Nat) (a6 a8 : Nat → Int32), j ≤ 29 → a6 0 = nI 1 → a6 1 = nI 0 → wX_raise_38 post (nI 3) (j + 1 + 1 + 1) (nI (j + 2) + (-1)) (nI 2) a1 a2 a3 a4 a5 a6 a7 a8 a9 a10 a11 a12 a13
  | 0, a6, a8, _, h60, h61 => rt_r3lo (n := 0) hm0 hm1 h60 h61 h40 h41 H
  | j + 1, a6, a8, hj, h60, h61 => by
    refine rt_r2 (j := j + 2) (p := 1) (q := 0) (by omega) (by omega) (by omega) hm0 hm1 h60 h61 h40 h41 (fun c => absurd c (rt_hi (j + 2) (by omega) (by omega))) (fun _ b6 b8 e0 e1 => ?_)
    rw [rt_s2] at e0
    rw [rt_s1] at e1
    exact rt_r3hi hm0 hm1 h40 h41 H j b6 b8 (by omega) e0 e1
theorem rt_raise3 {post : St2 → Prop} {a1 a2 a3 a4 a5 a6 a7 a8 a9 a10 a11 a12 a13 : Nat → Int32} {m0 m1 : Nat} (hm0 : m0 < 997) (hm1 : m1 < 997) (h40 : a4 0 = nI m0) (h41 : a4 1 = nI m1) (H : ∀ b6 b8 : Nat → Int32, b6 0 = nI (m1 * m0 % 997) → b6 1 = nI ((m0 + m1 * m1) % 997) → post (nI 2, a1, a2, a3, a4, a5, b6, a7, b8, a9, a10, a11, a12, a13)) : wpX_raise post (nI 2, a1, a2, a3, a4, a5, a6, a7, a8, a9, a10, a11, a12, a13) (nI 3) :=
  rt_ra2 (z := 2) (by omega) (by omega) (fun b6 e60 e61 => ⟨29 + 1 + 1 + 1, rt_r3hi hm0 hm1 h40 h41 H 29 b6 a8 (by omega) e60 e61⟩)
theorem rt_t81 {post : St2 → Prop} {f : Int32} {a1 a2 a3 a4 a5 a6 a7 a8 a9 a10 a11 a12 a13 : Nat → Int32} (H : ∀ b4 : Nat → Int32, b4 0 = a7 0 → b4 1 = a7 1 → post (f, a1, a2, a3, b4, a5, a6, a7, a8, a9, a10, a11, a12, a13)) : ∃ n, wX_timesLess_81 post (nI 1) f n 0 a1 a2 a3 a4 a5 a6 a7 a8 a9 a10 a11 a12 a13 :=
  pk_loop (fun n i s => wX_timesLess_81 post (nI 1) f n (nI i) a1 a2 a3 s a5 a6 a7 a8 a9 a10 a11 a12 a13) (fun i s => ∀ j, j < i → s j = a7 j) 2 0 a4 (by omega) (fun j hj => absurd hj (by omega))
    (fun n s h => pk_lt 1 2 (fun _ => H s (h 0 (by omega)) (h 1 (by omega))) (fun c => absurd c (by omega)))
    (fun n i s hi h hw => pk_lt 1 i (fun c => absurd c (by omega)) (fun _ => ⟨pk_in i 5 (by omega), pk_in i 6 (by omega), nm_e (nm_r (nI_1 i) (hw _ (rt_fill (nI_clamp (by omega)) h (by rw [nI_clamp (by omega)]))))⟩))
/-- the polynomial times X - 1 -/
theorem rt_less {post : St2 → Prop} {f : Int32} {a1 a2 a3 a4 a5 a6 a7 a8 a9 a10 a11 a12 a13 : Nat → Int32} {r : Nat} (hr : r < 997) (h4 : a4 0 = nI r) (H : ∀ b4 b7 : Nat → Int32, b4 0 = nI ((997 - r) % 997) → b4 1 = nI ((r + 998) % 997) → post (f, a1, a2, a3, b4, a5, a6, b7, a8, a9, a10, a11, a12, a13)) : wpX_timesLess post (f, a1, a2, a3, a4, a5, a6, a7, a8, a9, a10, a11, a12, a13) (nI 1) := by
  have e1 : (nI r + 997 - 0 + 1) - (nI r + 997 - 0 + 1) / 997 * 997 = nI ((r + 998) % 997) := by
    rw [Int32.sub_zero, show (997 : Int32) = nI 997 from rfl, nI_add, nI_1]
    exact rt_mod (by omega)
  have e0 : (0 + 997 - nI r + 0) - (0 + 997 - nI r + 0) / 997 * 997 = nI ((997 - r) % 997) := by
    rw [Int32.add_zero, Int32.zero_add]
    rw [show (997 : Int32) = nI 997 from rfl, pk_sub (by omega)]
    exact rt_mod (by omega)
  refine ⟨0 + 1 + 1 + 1, ?_⟩
  refine br_f (by decide) (pk_le 1 0 (fun c => absurd c (by omega)) (fun _ => ⟨pk_in 0 6 (by omega) (by decide), ?_⟩))
  refine pk_le 1 1 (fun _ => ?_) (fun c => absurd c (by omega))
  refine br_t rfl ⟨rt_997, pk_in 1 5 (by omega), nm_r (e' := upd a7 1 (nI ((r + 998) % 997))) ?_ (nm_r (pk_m1 0) ?_)⟩
  · have e4 : a4 (nI 1 - 1).toNatClampNeg = nI r := h4
    rw [nI_clamp (by omega), e4, e1]
  · refine br_f (by decide) (pk_le 0 0 (fun _ => ?_) (fun c => absurd c (by omega)))
    refine pk_le 1 0 (fun c => absurd c (by omega)) (fun _ => ⟨pk_in 0 6 (by omega), ?_⟩)
    refine br_f (by decide) ⟨rt_997, pk_in 0 5 (by omega), nm_r (e' := upd (upd a7 1 (nI ((r + 998) % 997))) 0 (nI ((997 - r) % 997))) ?_ (nm_e (br_t (by decide) ?_))⟩
    · rw [nI_clamp (by omega), h4, e0]
    · exact rt_t81 (fun b4 f0 f1 => H b4 _ (f0.trans rfl) (f1.trans rfl))
/-- the far term 3 of size 2 -/
theorem rt_far {post : Int32 → St2 → Prop} {a1 a2 a3 a4 a5 a6 a7 a8 a9 a10 a11 a12 a13 : Nat → Int32} {m0 m1 h0 h1 : Nat} (hm0 : m0 < 997) (hm1 : m1 < 997) (hh0 : h0 < 1000) (hh1 : h1 < 1000) (h40 : a4 0 = nI m0) (h41 : a4 1 = nI m1) (h50 : a5 0 = nI h0) (h51 : a5 1 = nI h1) (H : ∀ b6 b8 : Nat → Int32, post (nI ((m1 * m0 % 997 * h0 % 997 + (m0 + m1 * m1) % 997 * h1) % 997)) (nI 2, a1, a2, a3, a4, a5, b6, a7, b8, a9, a10, a11, a12, a13)) : wpX_farTerm post (nI 2, a1, a2, a3, a4, a5, a6, a7, a8, a9, a10, a11, a12, a13) (nI 3) := by
  refine rt_raise3 hm0 hm1 h40 h41 (fun b6 b8 e0 e1 => ⟨0 + 1 + 1 + 1, ?_⟩)
  refine pk_le 2 0 (fun c => absurd c (by omega)) (fun _ => ⟨pk_in 0 5 (by omega), pk_in 0 5 (by omega), rt_997, nm_r (e' := nI (m1 * m0 % 997 * h0 % 997)) ?_ (nm_r (nI_1 0) ?_)⟩)
  · have f0 : b6 (0 : Int32).toNatClampNeg = nI (m1 * m0 % 997) := e0
    have f5 : a5 (0 : Int32).toNatClampNeg = nI h0 := h50
    rw [rt_m0 f0 f5 (rt_m9 _) hh0]
  · refine pk_le 2 1 (fun c => absurd c (by omega)) (fun _ => ⟨pk_in 1 5 (by omega), pk_in 1 5 (by omega), rt_997, nm_r (e' := nI ((m1 * m0 % 997 * h0 % 997 + (m0 + m1 * m1) % 997 * h1) % 997)) ?_ (nm_r (nI_1 1) ?_)⟩)
    · have f1 : b6 (nI 1).toNatClampNeg = nI ((m0 + m1 * m1) % 997) := e1
      have f5 : a5 (nI 1).toNatClampNeg = nI h1 := h51
      rw [rt_ma rfl f1 f5 (rt_m9 _) (rt_m9 _) hh1]
    · exact pk_le 2 2 (fun _ => H b6 b8) (fun c => absurd c (by omega))
theorem rt_good {post : Int32 → Prop} {k : Nat} (hk : k < 3) (h : post 1) : wpX_isGood post () (nI k) :=
  pk_lt k 0 (fun c => absurd c (by omega)) (fun _ => pk_lt 2 k (fun c => absurd c (by omega)) (fun _ => h))
theorem rt_n10 : ¬ (1 : Int32) = 0 := by decide
/-- sum(s, 3) -/
theorem rt_sum3 {post : Int32 → St2 → Prop} {f : Int32} {a1 a2 a3 a4 a5 a6 a7 a8 a9 a10 a11 a12 a13 : Nat → Int32} {k r a : Nat} (hk : k < 3) (hr : r < 997) (ha : a < 997) (h1 : a1 k = nI 1) (h2 : a2 (4 * k) = nI r) (h3 : a3 (4 * k) = nI a) (H : ∀ (g : Int32) (b4 b5 b6 b7 b8 : Nat → Int32), post (nI ((a + a * r ^ 1 % 997 + a * r ^ 2 % 997 + a * r ^ 3 % 997) % 997)) (g, a1, a2, a3, b4, b5, b6, b7, b8, a9, a10, a11, a12, a13)) : wpX_sum post (f, a1, a2, a3, a4, a5, a6, a7, a8, a9, a10, a11, a12, a13) (nI k) (nI 3) := by
  unfold wpX_sum
  refine rt_good hk ?_
  refine br_f rt_n10 (br_f (by decide) (br_t (by decide) ⟨pk_in k 3 hk, nm_r (e' := nI 1) (by rw [nI_clamp (by omega)]; exact h1) ⟨0 + 1 + 1 + 1, ?_⟩⟩))
  refine pk_lt 1 0 (fun c => absurd c (by omega)) (fun _ => rt_term (n := 0) hk (by omega) hr ha h1 h2 h3 (fun g b4 b6 b8 => ⟨rt_997, nm_r (e' := nI a) ?_ ⟨pk_in 0 5 (by omega), nm_e (nm_r (nI_1 0) ?_)⟩⟩))
  · rw [Int32.zero_add, rt_mod (Nat.lt_trans (rt_m9 _) (by decide)), Nat.pow_zero, Nat.mul_one, Nat.mod_mod, Nat.mod_eq_of_lt ha]
  · refine pk_lt 1 1 (fun c => absurd c (by omega)) (fun _ => rt_term (n := 1) hk (by omega) hr ha h1 h2 h3 (fun g b4 b6 b8 => ⟨rt_997, nm_r (e' := nI ((a + a * r ^ 1 % 997) % 997)) (rt_aa rfl rfl (by omega) (rt_m9 _)) ⟨pk_in 1 5 (by omega), nm_e (nm_r (nI_1 1) ?_)⟩⟩))
    refine pk_lt 1 2 (fun _ => rt_take hk h1 (fun c4 e4 => rt_less hr (e4.trans h2) (fun d4 d7 e40 e41 => nm_r (e' := nI 2) (by decide) ?_))) (fun c => absurd c (by omega))
    refine rt_far (h0 := a) (h1 := (a + a * r ^ 1 % 997) % 997) (Nat.mod_lt _ (by decide)) (Nat.mod_lt _ (by decide)) (by omega) (rt_m9 _) e40 e41 rfl rfl (fun c6 c8 => ?_)
    rw [Nat.mul_comm ((r + 998) % 997) ((997 - r) % 997), rt_sum hr]
    exact H _ _ _ _ _ _
end
section
theorem rt_iinv {post : Int32 → Prop} {x : Nat} (hx : x < 1000) (H : post (nI (rt_io x 10))) : wpX_inverse post () (nI x) := by
  refine pk_loop (σ := Unit) (fun n i _ => wX_inverse_11 post (nI 995) n (nI (rt_io x i)) (nI (rt_ir x i)) (nI i)) (fun _ _ => True) 10 0 () (by omega) trivial (fun n _ _ => pk_le 10 10 (fun _ => H) (fun c => absurd c (by omega))) ?_
  intro n i _ hi _ hw
  have lo := rt_io_lt x i
  have li := rt_ir_lt hx i
  have hb : nI (rt_ir x i) * nI (rt_ir x i) - nI (rt_ir x i) * nI (rt_ir x i) / 997 * 997 = nI (rt_ir x (i + 1)) := by
    rw [rt_mm rfl rfl li li]
    show _ = nI (rt_ir x i ^ 2 % 997)
    rw [Nat.pow_two]
  have hw' := hw () trivial
  refine pk_le 10 i (fun c => absurd c (by omega)) (fun _ => ek_if (rt_bit (N := 995) (by omega) (by omega)) (fun hc => ⟨rt_997, nm_r (e' := nI (rt_io x (i + 1))) ?_ ⟨rt_997, nm_r hb (nm_r (nI_1 i) hw')⟩⟩) (fun hc => ⟨rt_997, nm_r hb (nm_r (nI_1 i) ?_)⟩))
  · rw [rt_mm rfl rfl lo li]
    show _ = nI (if 995 / 2 ^ i % 2 = 1 then rt_io x i * rt_ir x i % 997 else rt_io x i)
    rw [if_pos hc]
  · have e : rt_io x (i + 1) = rt_io x i := by
      show (if 995 / 2 ^ i % 2 = 1 then rt_io x i * rt_ir x i % 997 else rt_io x i) = _
      rw [if_neg hc]
    rw [e] at hw'
    exact hw'
/-- one place is mended, the older rule has length 0 -/
theorem rt_rep {post : St2 → Prop} {f : Int32} {a1 a2 a3 a4 a5 a6 a7 a8 a9 a10 a11 a12 a13 : Nat → Int32} {R g : Nat} (h10 : a10 0 = nI R) (hR : R < 1000) (hg : g < 1000) (H : post (f, a1, a2, a3, a4, a5, a6, a7, a8, a9, upd a10 0 (nI ((R + g) % 997)), a11, a12, a13)) : wpX_repair post (f, a1, a2, a3, a4, a5, a6, a7, a8, a9, a10, a11, a12, a13) (nI g) (nI 1) (nI 0) := by
  refine ⟨pk_in 0 40 (by omega) (by decide), rt_997, pk_in 0 40 (by omega) (by decide), nm_r (e' := upd a10 0 (nI ((R + g) % 997))) ?_ ⟨0 + 1, pk_lt 0 1 (fun _ => H) (fun c => absurd c (by omega))⟩⟩
  have e : (nI 1 - 1 : Int32).toNatClampNeg = 0 := by decide
  rw [e, rt_aa h10 rfl hR hg]
theorem rt_old {post : St2 → Prop} {f : Int32} {a1 a2 a3 a4 a5 a6 a7 a8 a9 a10 a11 a12 a13 : Nat → Int32} (H : ∀ b11 : Nat → Int32, post (f, a1, a2, a3, a4, a5, a6, a7, a8, a9, a10, b11, a12, a13)) : wpX_takeOlder post (f, a1, a2, a3, a4, a5, a6, a7, a8, a9, a10, a11, a12, a13) :=
  pk_loop (fun n i s => wX_takeOlder_2 post f n (nI i) a1 a2 a3 a4 a5 a6 a7 a8 a9 a10 s a12 a13) (fun _ _ => True) 40 0 a11 (by omega) trivial
    (fun n s _ => pk_le 40 40 (fun _ => H s) (fun c => absurd c (by omega)))
    (fun n i s hi _ hw => pk_le 40 i (fun c => absurd c (by omega)) (fun _ => ⟨pk_in i 40 (by omega), pk_in i 40 (by omega), nm_e (nm_r (nI_1 i) (hw _ trivial))⟩))
/-- a break at term i with the rule of length l: two ways -/
theorem rt_m118 {post : Int32 → St2 → Prop} {J : Int32 → Int32 → Int32 → Int32 → Int32 → Int32 → (Nat → Int32) → (Nat → Int32) → (Nat → Int32) → (Nat → Int32) → (Nat → Int32) → (Nat → Int32) → (Nat → Int32) → (Nat → Int32) → (Nat → Int32) → (Nat → Int32) → (Nat → Int32) → (Nat → Int32) → (Nat → Int32) → Prop} {x1 f : Int32} {a1 a2 a3 a4 a5 a6 a7 a8 a9 a10 a11 a12 a13 : Nat → Int32} {l o i g R : Nat} (hl : l ≤ 1) (hi : i ≤ 1) (ho : o < 1000) (hg : g < 1000) (hR : R < 1000) (h10 : a10 0 = nI R)
    (H1 : i < 2 * l → ∀ b12 : Nat → Int32, J (nI l) (nI 0) (nI o) (nI 2) (nI (i + 1)) f a1 a2 a3 a4 a5 a6 a7 a8 a9 (upd a10 0 (nI ((R + g * rt_io o 10 % 997) % 997))) a11 b12 a13)
    (H2 : 2 * l ≤ i → ∀ b11 b12 : Nat → Int32, J (nI (i + 1 - l)) (nI l) (nI g) (nI 1) (nI (i + 1)) f a1 a2 a3 a4 a5 a6 a7 a8 a9 (upd a10 0 (nI ((R + g * rt_io o 10 % 997) % 997))) b11 b12 a13) :
    ∃ n, wX_mend_118 post J x1 (nI l) (nI 0) (nI o) (nI 1) (nI i) (nI g) f n 0 a1 a2 a3 a4 a5 a6 a7 a8 a9 a10 a11 a12 a13 := by
  refine pk_loop (fun n c s => wX_mend_118 post J x1 (nI l) (nI 0) (nI o) (nI 1) (nI i) (nI g) f n (nI c) a1 a2 a3 a4 a5 a6 a7 a8 a9 a10 a11 s a13) (fun _ _ => True) 40 0 a12 (by omega) trivial ?_ (fun n c s hc _ hw => pk_le 40 c (fun z => absurd z (by omega)) (fun _ => ⟨pk_in c 40 (by omega), pk_in c 40 (by omega), nm_e (nm_r (nI_1 c) (hw _ trivial))⟩))
  intro n s _
  refine pk_le 40 40 (fun _ => rt_iinv ho ⟨rt_997, ?_⟩) (fun z => absurd z (by omega))
  rw [rt_mm rfl rfl hg (rt_io_lt o 10)]
  have e2 : 2 * nI l = nI (2 * l) := by rw [show (2 : Int32) = nI 2 from rfl, pk_mul]
  refine rt_rep h10 hR (rt_m9 _) (pk_lt i (2 * l) (fun z => nm_r (nI_1 1) (nm_r (nI_1 i) (H1 z s))) (fun z => ?_) rfl e2)
  refine nm_r (e' := nI (i + 1 - l)) (by rw [nI_1, pk_sub (by omega)]) (rt_old (fun b11 => nm_r (nI_1 i) (H2 z b11 s)))
/-- the loop over the terms where all are 0 -/
theorem rt_m41z {post : Int32 → St2 → Prop} {f : Int32} {a1 a2 a3 a4 a5 a6 a7 a8 a9 a10 a11 a12 a13 : Nat → Int32} (h9 : ∀ j, j < 8 → a9 j = nI 0) (H : post (nI 0) (f, a1, a2, a3, a4, a5, a6, a7, a8, a9, a10, a11, a12, a13)) : ∃ n, wX_mend_41 post (nI 8) n (nI 0) (nI 0) (nI 1) (nI 1) (nI 0) f a1 a2 a3 a4 a5 a6 a7 a8 a9 a10 a11 a12 a13 := by
  refine pk_loop (σ := Unit) (fun n i _ => wX_mend_41 post (nI 8) n (nI 0) (nI 0) (nI 1) (nI (i + 1)) (nI i) f a1 a2 a3 a4 a5 a6 a7 a8 a9 a10 a11 a12 a13) (fun _ _ => True) 8 0 () (by omega) trivial (fun n _ _ => pk_le 8 8 (fun _ => H) (fun c => absurd c (by omega))) ?_
  intro n i _ hi _ hw
  refine pk_le 8 i (fun c => absurd c (by omega)) (fun _ => ⟨pk_in i 40 (by omega), nm_r (e' := nI 0) (by rw [nI_clamp (by omega)]; exact h9 i hi) ⟨0 + 1, ?_⟩⟩)
  exact pk_lt 0 1 (fun _ => br_t rfl (nm_r (nI_1 (i + 1)) (nm_r (nI_1 i) (hw () trivial)))) (fun c => absurd c (by omega))
/-- one gap over a rule of length 1 -/
theorem rt_m59 {post : Int32 → St2 → Prop} {J : Int32 → Int32 → Int32 → Int32 → Int32 → Int32 → (Nat → Int32) → (Nat → Int32) → (Nat → Int32) → (Nat → Int32) → (Nat → Int32) → (Nat → Int32) → (Nat → Int32) → (Nat → Int32) → (Nat → Int32) → (Nat → Int32) → (Nat → Int32) → (Nat → Int32) → (Nat → Int32) → Prop} {x1 x3 x4 x5 f : Int32} {a1 a2 a3 a4 a5 a6 a7 a8 a9 a10 a11 a12 a13 : Nat → Int32} {i g R t : Nat} (hi : i < 40) (hg : g < 1000) (hR : R < 997) (ht : t < 1000) (h10 : a10 0 = nI R) (h9 : a9 i = nI t)
    (Hz : (g + (997 - R) * t) % 997 = 0 → J (nI 1) x3 x4 (x5 + 1) (nI (i + 1 + 1)) f a1 a2 a3 a4 a5 a6 a7 a8 a9 a10 a11 a12 a13)
    (Hn : (g + (997 - R) * t) % 997 ≠ 0 → ∃ n, wX_mend_118 post J x1 (nI 1) x3 x4 x5 (nI (i + 1)) (nI ((g + (997 - R) * t) % 997)) f n 0 a1 a2 a3 a4 a5 a6 a7 a8 a9 a10 a11 a12 a13) :
    ∃ n, wX_mend_59 post J x1 (nI 1) x3 x4 x5 (nI (i + 1)) f a1 a2 a3 a4 a5 a6 a7 a8 a9 a10 a11 a12 a13 n (nI g) (nI 1) := by
  have e9 : a9 (nI (i + 1) - nI 1).toNatClampNeg = nI t := by
    rw [pk_sub (by omega), nI_clamp (by omega)]
    exact h9
  have e10 : 997 - a10 (nI 1 - 1).toNatClampNeg = nI (997 - R) := by
    rw [show (nI 1 - 1 : Int32).toNatClampNeg = 0 from by decide, h10, show (997 : Int32) = nI 997 from rfl, pk_sub (by omega)]
  refine ⟨0 + 1 + 1, pk_lt 1 1 (fun c => absurd c (by omega)) (fun _ => ⟨pk_in 0 40 (by omega) (by decide), pk_in i 40 hi (by rw [pk_sub (by omega)]; rfl), rt_997, nm_r (e' := nI ((g + (997 - R) * t) % 997)) (rt_ma rfl e10 e9 hg (by omega) ht) (nm_r (nI_1 1) ?_)⟩)⟩
  exact pk_lt 1 2 (fun _ => pk_eq ((g + (997 - R) * t) % 997) 0 (fun z => nm_e (nm_r (nI_1 (i + 1)) (Hz z))) (fun z => Hn z)) (fun c => absurd c (by omega))
/-- the loop over the terms from 2 on: the rule holds -/
theorem rt_m41h {post : Int32 → St2 → Prop} {f x3 x4 : Int32} {a1 a2 a3 a4 a5 a6 a7 a8 a9 a10 a11 a12 a13 : Nat → Int32} {a r : Nat} (hr : r < 997) (h9 : ∀ j, j < 8 → a9 j = nI (a * r ^ j % 997)) (h10 : a10 0 = nI r) (H : post (nI 1) (f, a1, a2, a3, a4, a5, a6, a7, a8, a9, a10, a11, a12, a13)) : ∀ x5 : Int32, wX_mend_41 post (nI 8) (0 + 1 + 1 + 1 + 1 + 1 + 1 + 1) (nI 1) x3 x4 x5 (nI 2) f a1 a2 a3 a4 a5 a6 a7 a8 a9 a10 a11 a12 a13 := by
  intro x5
  refine loop_i (σ := Int32) (fun n i s => wX_mend_41 post (nI 8) n (nI 1) x3 x4 s (nI i) f a1 a2 a3 a4 a5 a6 a7 a8 a9 a10 a11 a12 a13) (fun i _ => 1 ≤ i) 8 (fun n s _ => pk_le 8 8 (fun _ => H) (fun c => absurd c (by omega))) ?_ 7 2 x5 (by omega) (by omega) (by omega)
  intro n i s hi h1 hw
  obtain ⟨m, e⟩ : ∃ m, i = m + 1 := ⟨i - 1, by omega⟩
  subst e
  have hz := rt_gap0 (a := a) (n := m) hr
  exact pk_le 8 (m + 1) (fun c => absurd c (by omega)) (fun _ => ⟨pk_in (m + 1) 40 (by omega), nm_r (e' := nI (a * r ^ (m + 1) % 997)) (by rw [nI_clamp (by omega)]; exact h9 (m + 1) hi) (rt_m59 (by omega) (rt_m9 _) hr (rt_m9 _) h10 (h9 m (by omega)) (fun _ => hw _ (by omega)) (fun c => absurd hz c))⟩)
/-- the loop over the terms, the first one not 0 -/
theorem rt_m41n {post : Int32 → St2 → Prop} {f : Int32} {a1 a2 a3 a4 a5 a6 a7 a8 a9 a10 a11 a12 a13 : Nat → Int32} {a r : Nat} (ha : a < 997) (hr : r < 997) (ha0 : 0 < a) (h9 : ∀ j, j < 8 → a9 j = nI (a * r ^ j % 997)) (h10 : a10 0 = nI 0) (H : ∀ b10 b11 b12 : Nat → Int32, b10 0 = nI r → post (nI 1) (f, a1, a2, a3, a4, a5, a6, a7, a8, a9, b10, b11, b12, a13)) : ∃ n, wX_mend_41 post (nI 8) n (nI 0) (nI 0) (nI 1) (nI 1) (nI 0) f a1 a2 a3 a4 a5 a6 a7 a8 a9 a10 a11 a12 a13 := by
  have e90 : a9 0 = nI a := by
    rw [h9 0 (by omega), Nat.pow_zero, Nat.mul_one, Nat.mod_eq_of_lt ha]
  have em := rt_mend1 ha hr ha0
  refine ⟨0 + 1 + 1 + 1 + 1 + 1 + 1 + 1 + 1 + 1, ?_⟩
  refine pk_le 8 0 (fun c => absurd c (by omega)) (fun _ => ⟨pk_in 0 40 (by omega), nm_r (e' := nI a) e90 ⟨0 + 1, ?_⟩⟩)
  refine pk_lt 0 1 (fun _ => pk_eq a 0 (fun c => absurd c (by omega)) (fun _ => ?_)) (fun c => absurd c (by omega))
  refine rt_m118 (l := 0) (o := 1) (i := 0) (g := a) (R := 0) (by omega) (by omega) (by omega) (by omega) (by omega) h10 (fun c => absurd c (by omega)) (fun _ b11 b12 => ?_)
  have e10 : upd a10 0 (nI ((0 + a * rt_io 1 10 % 997) % 997)) 0 = nI a := by
    rw [pk_us, rt_inv1, Nat.mul_one, Nat.zero_add, Nat.mod_mod, Nat.mod_eq_of_lt ha]
  generalize upd a10 0 (nI ((0 + a * rt_io 1 10 % 997) % 997)) = c10 at e10 ⊢
  refine pk_le 8 1 (fun c => absurd c (by omega)) (fun _ => ⟨pk_in 1 40 (by omega), nm_r (e' := nI (a * r ^ 1 % 997)) (h9 1 (by omega)) ?_⟩)
  refine rt_m59 (i := 0) (by omega) (rt_m9 _) ha (by omega) e10 e90 (fun hz => ?_) (fun hz => ?_)
  · rw [hz, Nat.zero_mul, Nat.zero_mod, Nat.add_zero, Nat.mod_eq_of_lt ha] at em
    rw [em] at e10
    exact rt_m41h hr h9 e10 (H _ _ _ e10) _
  · refine rt_m118 (l := 1) (o := a) (i := 1) (R := a) (by omega) (by omega) (by omega) (rt_m9 _) (by omega) e10 (fun _ d12 => ?_) (fun c => absurd c (by omega))
    rw [em]
    exact rt_m41h hr h9 pk_us (H _ _ _ pk_us) _
theorem rt_mend {post : Int32 → St2 → Prop} {f : Int32} {a1 a2 a3 a4 a5 a6 a7 a8 a9 a10 a11 a12 a13 : Nat → Int32} {a r : Nat} (ha : a < 997) (hr : r < 997) (h9 : ∀ j, j < 8 → a9 j = nI (a * r ^ j % 997)) (H : ∀ b10 b11 b12 : Nat → Int32, (a ≠ 0 → b10 0 = nI r) → post (nI (if a = 0 then 0 else 1)) (f, a1, a2, a3, a4, a5, a6, a7, a8, a9, b10, b11, b12, a13)) : wpX_mend post (f, a1, a2, a3, a4, a5, a6, a7, a8, a9, a10, a11, a12, a13) (nI 8) := by
  refine pk_loop (σ := (Nat → Int32) × (Nat → Int32)) (fun n i s => wX_mend_2 post (nI 8) f n (nI i) a1 a2 a3 a4 a5 a6 a7 a8 a9 s.1 s.2 a12 a13) (fun i s => 0 < i → s.1 0 = nI 0) 40 0 (a10, a11) (by omega) (fun h => absurd h (by omega)) (fun n s h => pk_le 40 40 (fun _ => ?_) (fun c => absurd c (by omega))) ?_
  · by_cases a0 : a = 0
    · have H' := H s.1 s.2 a12 (fun c => absurd a0 c)
      rw [if_pos a0] at H'
      exact rt_m41z (fun j hj => by rw [h9 j hj, a0, Nat.zero_mul, Nat.zero_mod]) H'
    · refine rt_m41n ha hr (by omega) h9 (h (by omega)) (fun b10 b11 b12 e => ?_)
      have H' := H b10 b11 b12 (fun _ => e)
      rw [if_neg a0] at H'
      exact H'
  · intro n i s hi h hw
    refine pk_le 40 i (fun c => absurd c (by omega)) (fun _ => ⟨pk_in i 40 hi, nm_e ⟨pk_in i 40 hi, nm_e (nm_r (nI_1 i) (hw (_, _) (fun _ => ?_)))⟩⟩)
    show upd s.1 (nI i).toNatClampNeg 0 0 = nI 0
    rw [nI_clamp (by omega)]
    by_cases e : i = 0
    · subst e
      exact pk_us
    · rw [pk_un (by omega)]
      exact h (by omega)
theorem rt_find {post : Int32 → St2 → Prop} {f : Int32} {a1 a2 a3 a4 a5 a6 a7 a8 a9 a10 a11 a12 a13 : Nat → Int32} {k r a : Nat} (hk : k < 3) (hr : r < 997) (ha : a < 997) (h1 : a1 k = nI 1) (h2 : a2 (4 * k) = nI r) (h3 : a3 (4 * k) = nI a) (H : ∀ (g : Int32) (b4 b6 b8 b9 b10 b11 b12 : Nat → Int32), (a ≠ 0 → b10 0 = nI r) → post (nI (if a = 0 then 0 else 1)) (g, a1, a2, a3, b4, a5, b6, a7, b8, b9, b10, b11, b12, a13)) : wpX_findRule post (f, a1, a2, a3, a4, a5, a6, a7, a8, a9, a10, a11, a12, a13) (nI k) := by
  refine pk_loop (σ := Int32 × (Nat → Int32) × (Nat → Int32) × (Nat → Int32) × (Nat → Int32)) (fun n i s => wX_findRule_2 post (nI k) n (nI i) s.1 a1 a2 a3 s.2.1 a5 s.2.2.1 a7 s.2.2.2.1 s.2.2.2.2 a10 a11 a12 a13) (fun i s => ∀ j, j < i → s.2.2.2.2 j = nI (a * r ^ j % 997)) 8 0 (f, a4, a6, a8, a9) (by omega) (fun j hj => absurd hj (by omega)) (fun n s h => pk_le 8 8 (fun _ => rt_mend ha hr h (fun b10 b11 b12 e => H _ _ _ _ _ _ _ _ e)) (fun c => absurd c (by omega))) ?_
  intro n i s hi h hw
  refine pk_le 8 i (fun c => absurd c (by omega)) (fun _ => rt_term_2 hk (by omega) hr ha h1 h2 h3 (fun g b4 b6 b8 => ⟨pk_in i 40 (by omega), nm_e (nm_r (nI_1 i) (hw (g, b4, b6, b8, _) ?_))⟩))
  exact rt_fill (f := fun j => nI (a * r ^ j % 997)) (nI_clamp (by omega)) h rfl
theorem rt_rank {post : Int32 → St2 → Prop} {f : Int32} {a1 a2 a3 a4 a5 a6 a7 a8 a9 a10 a11 a12 a13 : Nat → Int32} {k r a : Nat} (hk : k < 3) (hr : r < 997) (ha : a < 997) (h1 : a1 k = nI 1) (h2 : a2 (4 * k) = nI r) (h3 : a3 (4 * k) = nI a) (H : ∀ (g : Int32) (b4 b6 b8 b9 b10 b11 b12 : Nat → Int32), post (nI (if a = 0 then 0 else 1)) (g, a1, a2, a3, b4, a5, b6, a7, b8, b9, b10, b11, b12, a13)) : wpX_rank post (f, a1, a2, a3, a4, a5, a6, a7, a8, a9, a10, a11, a12, a13) (nI k) := by
  unfold wpX_rank
  refine rt_good hk ?_
  exact br_f rt_n10 (rt_find hk hr ha h1 h2 h3 (fun g b4 b6 b8 b9 b10 b11 b12 _ => H g b4 b6 b8 b9 b10 b11 b12))
theorem rt_short {post : Int32 → St2 → Prop} {f : Int32} {a1 a2 a3 a4 a5 a6 a7 a8 a9 a10 a11 a12 a13 : Nat → Int32} {k r a : Nat} (hk : k < 3) (hr : r < 997) (ha : a < 997) (h1 : a1 k = nI 1) (h2 : a2 (4 * k) = nI r) (h3 : a3 (4 * k) = nI a) (H : ∀ (g : Int32) (b4 b6 b8 b9 b10 b11 b12 : Nat → Int32), post (if a = 0 then -2 else nI r) (g, a1, a2, a3, b4, a5, b6, a7, b8, b9, b10, b11, b12, a13)) : wpX_shortest post (f, a1, a2, a3, a4, a5, a6, a7, a8, a9, a10, a11, a12, a13) (nI k) (nI 1) := by
  unfold wpX_shortest
  refine rt_good hk ?_
  refine br_f rt_n10 (rt_find hk hr ha h1 h2 h3 (fun g b4 b6 b8 b9 b10 b11 b12 e => br_f (by decide) ?_))
  have H' := H g b4 b6 b8 b9 b10 b11 b12
  by_cases a0 : a = 0
  · rw [if_pos a0] at H' ⊢
    exact br_t (by decide) H'
  · rw [if_neg a0] at H' ⊢
    refine br_f (by decide) ⟨pk_in 0 40 (by omega) (by decide), ?_⟩
    have e' : b10 (nI 1 - 1).toNatClampNeg = nI r := e a0
    rw [e']
    exact H'
end
section
/-- a turn of zero: the next term -/
theorem rt_z53s {post : Int32 → St2 → Prop} {f : Int32} {a1 a2 a3 a4 a5 a6 a7 a8 a9 a10 a11 a12 a13 : Nat → Int32} {k r t n i : Nat} (hk : k < 3) (hi : i < 1000) (hr : r < 997) (ht : t < 997) (ht0 : t ≠ 0) (h2 : a2 (4 * k) = nI r) (h13 : a13 0 = nI t) (hw : wX_zero_53 post (nI k) (nI 1) f n (nI (i + 1)) a1 a2 a3 a4 a5 a6 a7 a8 a9 a10 a11 a12 (upd a13 0 (nI (r * t % 997)))) : wX_zero_53 post (nI k) (nI 1) f (n + 1) (nI i) a1 a2 a3 a4 a5 a6 a7 a8 a9 a10 a11 a12 a13 := by
  have e2 : a2 (4 * nI k + 1 - 1).toNatClampNeg = nI r := by
    rw [show (4 * nI k + 1 - 1 : Int32) = nI (4 * k) from rt_41 k, nI_clamp (by omega)]
    exact h2
  have e13 : a13 (nI 1 - 1).toNatClampNeg = nI t := h13
  refine pk_le 1000 i (fun c => absurd c (by omega)) (fun _ => br_f (by rw [h13]; exact nI_ne0 (by omega) (by omega)) ⟨0 + 1 + 1, ?_⟩)
  refine pk_lt 1 1 (fun c => absurd c (by omega)) (fun _ => ⟨pk_in (4 * k) 12 (by omega) (rt_41 k), pk_in 0 4 (by omega) (by decide), rt_997, nm_r (e' := nI (r * t % 997)) ?_ (nm_r (nI_1 1) ?_)⟩)
  · rw [rt_m0 e2 e13 (by omega) (by omega)]
  · refine pk_lt 1 2 (fun _ => ⟨0 + 1, pk_le 1 1 (fun _ => ⟨pk_in 0 4 (by omega) (by decide), nm_r (e' := upd a13 0 (nI (r * t % 997))) ?_ (nm_r (nI_1 i) hw)⟩) (fun c => absurd c (by omega))⟩) (fun c => absurd c (by omega))
    rw [show (nI 1 - 1 : Int32).toNatClampNeg = 0 from by decide]
theorem rt_zero {post : Int32 → St2 → Prop} {f : Int32} {a1 a2 a3 a4 a5 a6 a7 a8 a9 a10 a11 a12 a13 : Nat → Int32} {k r a : Nat} (hk : k < 3) (hr : r < 997) (ha : a < 997) (h1 : a1 k = nI 1) (h2 : a2 (4 * k) = nI r) (h3 : a3 (4 * k) = nI a) (H : ∀ b13 : Nat → Int32, post (if a = 0 then nI 0 else if r = 0 then nI 1 else -2) (f, a1, a2, a3, a4, a5, a6, a7, a8, a9, a10, a11, a12, b13)) : wpX_zero post (f, a1, a2, a3, a4, a5, a6, a7, a8, a9, a10, a11, a12, a13) (nI k) := by
  unfold wpX_zero
  refine rt_good hk ?_
  refine br_f rt_n10 ⟨pk_in k 3 hk, nm_r (e' := nI 1) (by rw [nI_clamp (by omega)]; exact h1) (br_f (by decide) ⟨0 + 1 + 1, ?_⟩)⟩
  refine pk_le 1 0 (fun c => absurd c (by omega)) (fun _ => ⟨pk_in (4 * k) 12 (by omega) (rt_4 k 0), pk_in 0 4 (by omega), nm_r (e' := upd a13 0 (nI a)) ?_ (nm_r (nI_1 0) (pk_le 1 1 (fun _ => ?_) (fun c => absurd c (by omega))))⟩)
  · have e3 : a3 (4 * nI k + nI 0).toNatClampNeg = nI a := by
      rw [rt_4, Nat.add_zero, nI_clamp (by omega)]
      exact h3
    have e0 : (0 : Int32).toNatClampNeg = 0 := by decide
    rw [nI_0] at e3
    rw [e3, e0]
  · by_cases a0 : a = 0
    · refine ⟨0 + 1, pk_le 1000 0 (fun c => absurd c (by omega)) (fun _ => br_t (by rw [pk_us, a0]; rfl) ?_)⟩
      have H' := H (upd a13 0 (nI a))
      rw [if_pos a0] at H'
      exact H'
    · by_cases r0 : r = 0
      · refine ⟨0 + 1 + 1, rt_z53s (i := 0) hk (by omega) hr ha a0 h2 pk_us (pk_le 1000 1 (fun c => absurd c (by omega)) (fun _ => br_t (by rw [pk_us, r0, Nat.zero_mul]; rfl) ?_))⟩
        have H' := H (upd (upd a13 0 (nI a)) 0 (nI (r * a % 997)))
        rw [if_neg a0, if_pos r0] at H'
        exact H'
      · refine pk_loop (fun n i s => wX_zero_53 post (nI k) (nI 1) f n (nI i) a1 a2 a3 a4 a5 a6 a7 a8 a9 a10 a11 a12 s) (fun i s => s 0 = nI (a * r ^ i % 997)) 1000 0 (upd a13 0 (nI a)) (by omega) ?_ (fun n s _ => pk_le 1000 1000 (fun _ => ?_) (fun c => absurd c (by omega))) ?_
        · rw [pk_us, Nat.pow_zero, Nat.mul_one, Nat.mod_eq_of_lt ha]
        · have H' := H s
          rw [if_neg a0, if_neg r0] at H'
          exact H'
        · intro n i s hi h hw
          refine rt_z53s hk hi hr (Nat.mod_lt _ (by decide)) (rt_pnz ha hr (by omega) (by omega) i) h2 h (hw _ ?_)
          rw [pk_us, Nat.mul_comm, rt_geo]
theorem rt_skip {post : Int32 → St2 → Prop} {f : Int32} {a1 a2 a3 a4 a5 a6 a7 a8 a9 a10 a11 a12 a13 : Nat → Int32} {k r a : Nat} (hk : k < 3) (hr : r < 997) (ha : a < 997) (h1 : a1 k = nI 1) (h2 : a2 (4 * k) = nI r) (h3 : a3 (4 * k) = nI a) (H : ∀ (g : Int32) (b4 b6 b8 b13 : Nat → Int32), post (nI (a * r ^ 2 % 997)) (g, a1, a2, upd a3 (4 * k) (nI (a * r ^ 2 % 997)), b4, a5, b6, a7, b8, a9, a10, a11, a12, b13)) : wpX_skip post (f, a1, a2, a3, a4, a5, a6, a7, a8, a9, a10, a11, a12, a13) (nI k) (nI 2) := by
  have e1 : a1 (nI k).toNatClampNeg = nI 1 := by
    rw [nI_clamp (by omega)]
    exact h1
  have ea : nI 2 + 0 = nI 2 := by decide
  have e0 : (0 : Int32).toNatClampNeg = 0 := by decide
  unfold wpX_skip
  refine rt_good hk ?_
  refine br_f rt_n10 (br_f (by decide) (br_t (by decide) ⟨0 + 1 + 1, pk_in k 3 hk, pk_le 1 0 (fun c => absurd c (by omega)) (fun _ => ?_) e1⟩))
  rw [ea]
  refine rt_term_3 (n := 2) hk (by omega) hr ha h1 h2 h3 (fun g b4 b6 b8 => ⟨pk_in 0 4 (by omega), nm_r (e' := upd a13 0 (nI (a * r ^ 2 % 997))) (by rw [e0]) (nm_r (nI_1 0) ⟨pk_in k 3 hk, pk_le 1 1 (fun _ => ⟨0 + 1 + 1, ?_⟩) (fun c => absurd c (by omega)) e1⟩)⟩)
  refine ⟨pk_in k 3 hk, pk_le 1 0 (fun c => absurd c (by omega)) (fun _ => ⟨pk_in 0 4 (by omega), pk_in (4 * k) 12 (by omega) (rt_4 k 0), nm_r (e' := upd a3 (4 * k) (nI (a * r ^ 2 % 997))) ?_ (nm_r (nI_1 0) ⟨pk_in k 3 hk, pk_le 1 1 (fun _ => ⟨pk_in k 3 hk, br_f ?_ (H g b4 b6 b8 _)⟩) (fun c => absurd c (by omega)) e1⟩)⟩) e1⟩
  · have e3 : (4 * nI k + 0 : Int32).toNatClampNeg = 4 * k := pk_cl (4 * k) (rt_4 k 0)
    rw [e3, e0, pk_us]
  · rw [e1]
    decide
theorem rt_order {post : Int32 → St2 → Prop} {f : Int32} {a1 a2 a3 a4 a5 a6 a7 a8 a9 a10 a11 a12 a13 : Nat → Int32} {k : Nat} (hk : k < 3) (H : ∀ (x : Int32) (b2 b3 : Nat → Int32), post x (f, upd a1 k (nI 1), b2, b3, a4, a5, a6, a7, a8, a9, a10, a11, a12, a13)) : wpX_order post (f, a1, a2, a3, a4, a5, a6, a7, a8, a9, a10, a11, a12, a13) (nI k) (nI 1) := by
  unfold wpX_order
  refine rt_good hk ?_
  refine br_f rt_n10 (br_f (by decide) (br_t (by decide) ⟨pk_in k 3 hk, nm_e ⟨pk_in k 3 hk, nm_r (e' := upd a1 k (nI 1)) (by rw [nI_clamp (by omega)]) ?_⟩⟩))
  refine pk_loop (σ := (Nat → Int32) × (Nat → Int32)) (fun n i s => wX_order_38 post (nI k) (a1 (nI k).toNatClampNeg) f n (nI i) (upd a1 k (nI 1)) s.1 s.2 a4 a5 a6 a7 a8 a9 a10 a11 a12 a13) (fun _ _ => True) 4 0 (a2, a3) (by omega) trivial (fun n s _ => pk_le 4 4 (fun _ => H _ _ _) (fun c => absurd c (by omega))) ?_
  intro n i s hi _ hw
  exact pk_le 4 i (fun c => absurd c (by omega)) (fun _ => ⟨pk_in (4 * k + i) 12 (by omega) (rt_4 k i), nm_e ⟨pk_in (4 * k + i) 12 (by omega) (rt_4 k i), nm_e (nm_r (nI_1 i) (hw (_, _) trivial))⟩⟩)
theorem rt_rule {post : Int32 → St2 → Prop} {f : Int32} {a1 a2 a3 a4 a5 a6 a7 a8 a9 a10 a11 a12 a13 : Nat → Int32} {k r : Nat} {v : Int32} (hk : k < 3) (h1 : a1 k = nI 1) (hv : ∀ P : Int32 → Prop, P (nI r) → wpX_modulo P () v) (H : ∀ x : Int32, post x (f, a1, upd a2 (4 * k) (nI r), a3, a4, a5, a6, a7, a8, a9, a10, a11, a12, a13)) : wpX_rule post (f, a1, a2, a3, a4, a5, a6, a7, a8, a9, a10, a11, a12, a13) (nI k) (nI 1) v := by
  have e1 : a1 (nI k).toNatClampNeg = nI 1 := by
    rw [nI_clamp (by omega)]
    exact h1
  unfold wpX_rule
  refine rt_good hk ?_
  refine br_f rt_n10 (br_f (by decide) ⟨pk_in k 3 hk, pk_le 1 1 (fun _ => ⟨pk_in (4 * k) 12 (by omega) (rt_41 k), nm_e (hv _ ⟨pk_in (4 * k) 12 (by omega) (rt_41 k), nm_r (e' := upd a2 (4 * k) (nI r)) ?_ (H _)⟩)⟩) (fun c => absurd c (by omega)) rfl e1⟩)
  rw [rt_41, nI_clamp (by omega)]
theorem rt_start {post : Int32 → St2 → Prop} {f : Int32} {a1 a2 a3 a4 a5 a6 a7 a8 a9 a10 a11 a12 a13 : Nat → Int32} {k a : Nat} {v : Int32} (hk : k < 3) (h1 : a1 k = nI 1) (hv : ∀ P : Int32 → Prop, P (nI a) → wpX_modulo P () v) (H : ∀ x : Int32, post x (f, a1, a2, upd a3 (4 * k) (nI a), a4, a5, a6, a7, a8, a9, a10, a11, a12, a13)) : wpX_start post (f, a1, a2, a3, a4, a5, a6, a7, a8, a9, a10, a11, a12, a13) (nI k) (nI 0) v := by
  have e1 : a1 (nI k).toNatClampNeg = nI 1 := by
    rw [nI_clamp (by omega)]
    exact h1
  unfold wpX_start
  refine rt_good hk ?_
  refine br_f rt_n10 (br_f (by decide) ⟨pk_in k 3 hk, pk_lt 0 1 (fun _ => ⟨pk_in (4 * k) 12 (by omega) (rt_4 k 0), nm_e (hv _ ⟨pk_in (4 * k) 12 (by omega) (rt_4 k 0), nm_r (e' := upd a3 (4 * k) (nI a)) ?_ (H _)⟩)⟩) (fun c => absurd c (by omega)) rfl e1⟩)
  rw [rt_4, nI_clamp (by omega), Nat.add_zero]
theorem rt_tm {post : Int32 → St2 → Prop} {f : Int32} {a1 a2 a3 a4 a5 a6 a7 a8 a9 a10 a11 a12 a13 : Nat → Int32} {k n r a : Nat} (hk : k < 3) (hn : n < 2 ^ 31) (hr : r < 997) (ha : a < 997) (h1 : a1 k = nI 1) (h2 : a2 (4 * k) = nI r) (h3 : a3 (4 * k) = nI a) (H : ∀ (g : Int32) (b4 b6 b8 : Nat → Int32), post (nI (a * r ^ n % 997)) (g, a1, a2, a3, b4, a5, b6, a7, b8, a9, a10, a11, a12, a13)) : wpX_term post (f, a1, a2, a3, a4, a5, a6, a7, a8, a9, a10, a11, a12, a13) (nI k) (nI n) := by
  unfold wpX_term
  refine rt_good hk ?_
  exact br_f rt_n10 (br_t (nI_pos' hn) (rt_term hk hn hr ha h1 h2 h3 H))
theorem rt_ofI {x : Int32} (h0 : 0 ≤ x.toInt) (h : x.toInt < 997) : ∃ r : Nat, r < 997 ∧ x = nI r :=
  ⟨x.toInt.toNat, by omega, Int32.toInt_inj.mp (by rw [nI_toInt (by omega)]; omega)⟩
theorem rt_remI (v : Int32) : (v - v / 997 * 997).toInt = v.toInt.tmod 997 := by
  have h := Int.tdiv_mul_add_tmod v.toInt 997
  have l1 := v.toInt_lt
  have l2 := v.le_toInt
  have b1 := Int.tmod_lt_of_pos v.toInt (b := 997) (by decide)
  have b2 := Int.lt_tmod_of_pos v.toInt (b := 997) (by decide)
  rw [Int32.toInt_sub, Int32.toInt_mul, Int32.toInt_div_of_ne_right v 997 (by decide), show (997 : Int32).toInt = 997 from by decide]
  generalize v.toInt.tdiv 997 = q at h ⊢
  generalize v.toInt.tmod 997 = m at h b1 b2 ⊢
  rw [Int.sub_bmod_bmod, Int.bmod_eq_of_le (by omega) (by omega)]
  omega
theorem rt_norm (v : Int32) : ∃ r : Nat, r < 997 ∧ (∀ post : Int32 → Prop, post (nI r) → wpL_norm post () v) ∧ (∀ post : Int32 → Prop, post (nI r) → wpX_modulo post () v) := by
  have e := rt_remI v
  have b1 := Int.tmod_lt_of_pos v.toInt (b := 997) (by decide)
  have b2 := Int.lt_tmod_of_pos v.toInt (b := 997) (by decide)
  by_cases c : 0 ≤ v.toInt.tmod 997
  · obtain ⟨r, hr, hx⟩ := rt_ofI (x := v - v / 997 * 997) (by omega) (by omega)
    exact ⟨r, hr, fun post hp => ⟨rt_997, nm_r hx (br_t (nI_pos' (by omega)) hp)⟩, fun post hp => ⟨rt_997, nm_r hx (br_t (nI_pos' (by omega)) hp)⟩⟩
  · have e2 : (v - v / 997 * 997 + 997).toInt = v.toInt.tmod 997 + 997 := by
      rw [Int32.toInt_add, e, show (997 : Int32).toInt = 997 from by decide]
      exact Int.bmod_eq_of_le (by omega) (by omega)
    obtain ⟨r, hr, hx⟩ := rt_ofI (x := v - v / 997 * 997 + 997) (by omega) (by omega)
    have hn : ¬ 0 ≤ v - v / 997 * 997 := by
      rw [Int32.le_iff_toInt_le, e]
      exact c
    exact ⟨r, hr, fun post hp => ⟨rt_997, nm_e (br_f hn (by rw [hx]; exact hp))⟩, fun post hp => ⟨rt_997, nm_e (br_f hn (by rw [hx]; exact hp))⟩⟩
theorem rt_cell {post : Int32 → Prop} {L : Nat} {xs : Nat → Int32} (i : Nat) (hi : i < 3) (hL : L ≤ 3) (H : ∀ v, post v) : wpL_cellAt post L xs () (nI i) :=
  pk_le L i (fun _ => H 0) (fun c => ⟨pk_in i L c, H _⟩)
end
section
theorem rt_249 {post : Int32 → St0 → Prop} {mc ms kc ks r a : Nat} {x7 x8 : Int32} (hr : r < 997) (ha : a < 997) (H : post 1 ()) : ((nI a = 0 → wL_lawOf_249 post mc ms (nI r) (nI a) x7 x8 (if a = 0 then -2 else nI r) (if a = 0 then nI 0 else if r = 0 then nI 1 else -2) x7 x8 0 (nI (if a = 0 then 0 else 1)) kc ks) ∧ (¬ nI a = 0 → wL_lawOf_249 post mc ms (nI r) (nI a) x7 x8 (if a = 0 then -2 else nI r) (if a = 0 then nI 0 else if r = 0 then nI 1 else -2) x7 x8 1 (nI (if a = 0 then 0 else 1)) kc ks)) := by
  by_cases a0 : a = 0
  · rw [if_pos a0, if_pos a0, if_pos a0]
    have z : nI a = 0 := by rw [a0]; rfl
    exact br_t z (br_t rfl (br_t z (br_t rfl (br_t z (br_t rfl (br_t rfl (br_t rfl H)))))))
  · rw [if_neg a0, if_neg a0, if_neg a0]
    have z : ¬ nI a = 0 := nI_ne0 (by omega) (by omega)
    by_cases r0 : r = 0
    · rw [if_pos r0]
      have y : nI r = 0 := by rw [r0]; rfl
      exact br_f z (br_t rfl (br_f z (br_t rfl (br_f z (br_t y (br_t rfl (br_t rfl (br_t rfl H))))))))
    · rw [if_neg r0]
      have y : ¬ nI r = 0 := nI_ne0 (by omega) (by omega)
      exact br_f z (br_t rfl (br_f z (br_t rfl (br_f z (br_f y (br_t rfl (br_t rfl (br_t rfl H))))))))
theorem rt_lgood {post : Int32 → St0 → Prop} {k : Nat} {x1 x2 : Int32} (hk : k < 3) (H : post 1 ()) : wL_lawOf_14 post 148 2368 (nI k) x1 x2 1 0 0 := by
  obtain ⟨r, hr, nr, mr⟩ := rt_norm x1
  obtain ⟨a, ha, na, ma⟩ := rt_norm x2
  have g1 : nI a * nI r - nI a * nI r / 997 * 997 = nI (a * r ^ 1 % 997) := by
    rw [rt_mm rfl rfl (by omega) (by omega), Nat.pow_one]
  have g2 : nI (a * r ^ 1 % 997) * nI r - nI (a * r ^ 1 % 997) * nI r / 997 * 997 = nI (a * r ^ 2 % 997) := by
    rw [rt_mm rfl rfl (rt_m9 _) (by omega), rt_geo]
  have g3 : nI (a * r ^ 2 % 997) * nI r - nI (a * r ^ 2 % 997) * nI r / 997 * 997 = nI (a * r ^ 3 % 997) := by
    rw [rt_mm rfl rfl (rt_m9 _) (by omega), rt_geo]
  have g4 : nI ((a + a * r ^ 1 % 997 + a * r ^ 2 % 997 + a * r ^ 3 % 997) % 997) = (nI a + nI (a * r ^ 1 % 997) + nI (a * r ^ 2 % 997) + nI (a * r ^ 3 % 997)) - (nI a + nI (a * r ^ 1 % 997) + nI (a * r ^ 2 % 997) + nI (a * r ^ 3 % 997)) / 997 * 997 := by
    have l1 := rt_m9 (a * r ^ 1)
    have l2 := rt_m9 (a * r ^ 2)
    have l3 := rt_m9 (a * r ^ 3)
    rw [nI_add, nI_add, nI_add, rt_mod (by omega)]
  have g5 : a * r ^ 2 % 997 * r ^ 1 % 997 = a * r ^ 3 % 997 := by
    rw [Nat.pow_one, rt_geo]
  refine nr _ (na _ ⟨rt_997, nm_r g1 ⟨rt_997, nm_r g2 ⟨rt_997, nm_r g3 ⟨by omega, by omega, 13, 222, by omega, by omega, ?_⟩⟩⟩⟩)
  refine ⟨by omega, by omega, by omega, by omega, by omega, by omega, by omega, by omega, by omega, by omega, by omega, by omega, by omega, by omega, by omega, by omega, by omega, by omega, by omega, by omega, by omega, by omega, by omega, by omega, by omega, by omega, ?_⟩
  refine rt_order hk (fun _ b2 b3 => rt_rule hk pk_us mr (fun _ => rt_start hk pk_us ma (fun _ => ?_)))
  refine rt_tm (n := 2) hk (by omega) hr ha pk_us pk_us pk_us (fun f1 c4 c6 c8 => ?_)
  refine rt_sum3 hk hr ha pk_us pk_us pk_us (fun f2 d4 d5 d6 d7 d8 => ?_)
  refine rt_rank hk hr ha pk_us pk_us pk_us (fun f3 e4 e6 e8 e9 e10 e11 e12 => ?_)
  refine rt_short hk hr ha pk_us pk_us pk_us (fun f4 h4 h6 h8 h9 h10 h11 h12 => ?_)
  refine rt_zero hk hr ha pk_us pk_us pk_us (fun h13 => ?_)
  refine rt_skip hk hr ha pk_us pk_us pk_us (fun f5 i4 i6 i8 i13 => ?_)
  refine rt_tm (n := 1) (a := a * r ^ 2 % 997) hk (by omega) hr (Nat.mod_lt _ (by decide)) pk_us pk_us pk_us (fun f6 j4 j6 j8 => ?_)
  rw [g5]
  exact br_f rt_n10 (br_t rfl ⟨rt_997, br_t g4 (rt_249 hr ha H)⟩)
theorem rt_bad {post : Int32 → Prop} {x : Int32} (hb : x < 0 ∨ 2 < x) (h : post 0) : wpX_isGood post () x :=
  br_c (fun _ => h) (fun c => br_c (fun _ => h) (fun c2 => absurd hb (fun z => z.elim c c2)))
theorem rt_b_order {post : Int32 → St2 → Prop} {f x p1 : Int32} {a1 a2 a3 a4 a5 a6 a7 a8 a9 a10 a11 a12 a13 : Nat → Int32} (hb : x < 0 ∨ 2 < x) (H : post (-1) (f, a1, a2, a3, a4, a5, a6, a7, a8, a9, a10, a11, a12, a13)) : wpX_order post (f, a1, a2, a3, a4, a5, a6, a7, a8, a9, a10, a11, a12, a13) x p1 := by
  unfold wpX_order
  refine rt_bad hb ?_
  exact br_t rfl H
theorem rt_b_rule {post : Int32 → St2 → Prop} {f x p1 p2 : Int32} {a1 a2 a3 a4 a5 a6 a7 a8 a9 a10 a11 a12 a13 : Nat → Int32} (hb : x < 0 ∨ 2 < x) (H : post (-1) (f, a1, a2, a3, a4, a5, a6, a7, a8, a9, a10, a11, a12, a13)) : wpX_rule post (f, a1, a2, a3, a4, a5, a6, a7, a8, a9, a10, a11, a12, a13) x p1 p2 := by
  unfold wpX_rule
  refine rt_bad hb ?_
  exact br_t rfl H
theorem rt_b_start {post : Int32 → St2 → Prop} {f x p1 p2 : Int32} {a1 a2 a3 a4 a5 a6 a7 a8 a9 a10 a11 a12 a13 : Nat → Int32} (hb : x < 0 ∨ 2 < x) (H : post (-1) (f, a1, a2, a3, a4, a5, a6, a7, a8, a9, a10, a11, a12, a13)) : wpX_start post (f, a1, a2, a3, a4, a5, a6, a7, a8, a9, a10, a11, a12, a13) x p1 p2 := by
  unfold wpX_start
  refine rt_bad hb ?_
  exact br_t rfl H
theorem rt_b_term {post : Int32 → St2 → Prop} {f x p1 : Int32} {a1 a2 a3 a4 a5 a6 a7 a8 a9 a10 a11 a12 a13 : Nat → Int32} (hb : x < 0 ∨ 2 < x) (H : post (-1) (f, a1, a2, a3, a4, a5, a6, a7, a8, a9, a10, a11, a12, a13)) : wpX_term post (f, a1, a2, a3, a4, a5, a6, a7, a8, a9, a10, a11, a12, a13) x p1 := by
  unfold wpX_term
  refine rt_bad hb ?_
  exact br_t rfl H
theorem rt_b_sum {post : Int32 → St2 → Prop} {f x p1 : Int32} {a1 a2 a3 a4 a5 a6 a7 a8 a9 a10 a11 a12 a13 : Nat → Int32} (hb : x < 0 ∨ 2 < x) (H : post (-1) (f, a1, a2, a3, a4, a5, a6, a7, a8, a9, a10, a11, a12, a13)) : wpX_sum post (f, a1, a2, a3, a4, a5, a6, a7, a8, a9, a10, a11, a12, a13) x p1 := by
  unfold wpX_sum
  refine rt_bad hb ?_
  exact br_t rfl H
theorem rt_b_rank {post : Int32 → St2 → Prop} {f x : Int32} {a1 a2 a3 a4 a5 a6 a7 a8 a9 a10 a11 a12 a13 : Nat → Int32} (hb : x < 0 ∨ 2 < x) (H : post (-1) (f, a1, a2, a3, a4, a5, a6, a7, a8, a9, a10, a11, a12, a13)) : wpX_rank post (f, a1, a2, a3, a4, a5, a6, a7, a8, a9, a10, a11, a12, a13) x := by
  unfold wpX_rank
  refine rt_bad hb ?_
  exact br_t rfl H
theorem rt_b_shortest {post : Int32 → St2 → Prop} {f x p1 : Int32} {a1 a2 a3 a4 a5 a6 a7 a8 a9 a10 a11 a12 a13 : Nat → Int32} (hb : x < 0 ∨ 2 < x) (H : post (-1) (f, a1, a2, a3, a4, a5, a6, a7, a8, a9, a10, a11, a12, a13)) : wpX_shortest post (f, a1, a2, a3, a4, a5, a6, a7, a8, a9, a10, a11, a12, a13) x p1 := by
  unfold wpX_shortest
  refine rt_bad hb ?_
  exact br_t rfl H
theorem rt_b_zero {post : Int32 → St2 → Prop} {f x : Int32} {a1 a2 a3 a4 a5 a6 a7 a8 a9 a10 a11 a12 a13 : Nat → Int32} (hb : x < 0 ∨ 2 < x) (H : post (-1) (f, a1, a2, a3, a4, a5, a6, a7, a8, a9, a10, a11, a12, a13)) : wpX_zero post (f, a1, a2, a3, a4, a5, a6, a7, a8, a9, a10, a11, a12, a13) x := by
  unfold wpX_zero
  refine rt_bad hb ?_
  exact br_t rfl H
theorem rt_b_skip {post : Int32 → St2 → Prop} {f x p1 : Int32} {a1 a2 a3 a4 a5 a6 a7 a8 a9 a10 a11 a12 a13 : Nat → Int32} (hb : x < 0 ∨ 2 < x) (H : post (-1) (f, a1, a2, a3, a4, a5, a6, a7, a8, a9, a10, a11, a12, a13)) : wpX_skip post (f, a1, a2, a3, a4, a5, a6, a7, a8, a9, a10, a11, a12, a13) x p1 := by
  unfold wpX_skip
  refine rt_bad hb ?_
  exact br_t rfl H
theorem rt_lbad {post : Int32 → St0 → Prop} {x x1 x2 : Int32} (hb : x < 0 ∨ 2 < x) (H : post 1 ()) : wL_lawOf_14 post 148 2368 x x1 x2 0 0 0 := by
  obtain ⟨r, hr, nr, mr⟩ := rt_norm x1
  obtain ⟨a, ha, na, ma⟩ := rt_norm x2
  refine nr _ (na _ ⟨rt_997, nm_e ⟨rt_997, nm_e ⟨rt_997, nm_e ⟨by omega, by omega, 13, 222, by omega, by omega, ?_⟩⟩⟩⟩)
  refine ⟨by omega, by omega, by omega, by omega, by omega, by omega, by omega, by omega, by omega, by omega, by omega, by omega, by omega, by omega, by omega, by omega, by omega, by omega, by omega, by omega, by omega, by omega, by omega, by omega, by omega, by omega, ?_⟩
  refine rt_b_order hb ?_
  refine rt_b_rule hb ?_
  refine rt_b_start hb ?_
  refine rt_b_term hb ?_
  refine rt_b_sum hb ?_
  refine rt_b_rank hb ?_
  refine rt_b_shortest hb ?_
  refine rt_b_zero hb ?_
  refine rt_b_skip hb ?_
  refine rt_b_term hb ?_
  exact br_t rfl (br_t rfl (br_t rfl (br_t rfl (br_t rfl (br_t rfl (br_t rfl (br_t rfl H)))))))
theorem rt_lawOf {x0 x1 x2 : Int32} : wpL_lawOf (fun r _ => r = 1) 148 2368 () x0 x1 x2 := by
  refine br_c (fun h => rt_lbad (Or.inl h) rfl) (fun h => br_c (fun h2 => rt_lbad (Or.inr h2) rfl) (fun h2 => ?_))
  obtain ⟨k, hk, e⟩ := nI_of2 (M := 2) (n := 2) (by decide) h (Int32.not_lt.mp h2)
  rw [e]
  exact rt_lgood (by omega) rfl
theorem i_vc (xs : Nat → Int32) (L : Nat) (hL : L ≤ 3) : wpL_law (fun r => r = 1) L xs :=
  rt_cell 0 (by omega) hL (fun r1 => rt_cell 1 (by omega) hL (fun r2 => rt_cell 2 (by omega) hL (fun r3 => ⟨148, 2368, by omega, by omega, rt_lawOf⟩)))
end
