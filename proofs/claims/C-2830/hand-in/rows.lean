section
/-! rows picked from kit/rows/PURE-ROWS (starting text) -/
theorem pk_us {f : Nat → Int32} {k : Nat} {x : Int32} : upd f k x k = x := if_pos rfl
theorem pk_un {f : Nat → Int32} {k j : Nat} {x : Int32} (h : j ≠ k) : upd f k x j = f j := if_neg h
theorem pk_sub {a b : Nat} (h : b ≤ a) : nI a - nI b = nI (a - b) := by
  obtain ⟨c, rfl⟩ : ∃ c, a = c + b := ⟨a - b, by omega⟩
  rw [← nI_add, Int32.add_sub_cancel, Nat.add_sub_cancel]
theorem pk_m1 (n : Nat) : nI (n + 1) + (-1) = nI n := by
  rw [← nI_1, Int32.add_assoc, show (1 : Int32) + (-1) = 0 from rfl, Int32.add_zero]
theorem pk_mul (a b : Nat) : nI a * nI b = nI (a * b) := (Int32.ofNat_mul a b).symm
theorem pk_div {a d : Nat} (ha : a < 2 ^ 31) (h0 : 0 < d) (hd : d < 2 ^ 31) : nI a / nI d = nI (a / d) := by
  apply Int32.toInt_inj.mp
  rw [lg_idiv_nonneg (by rw [nI_toInt ha]; omega) (by rw [nI_toInt hd]; omega), nI_toInt ha, nI_toInt hd, nI_toInt (Nat.lt_of_le_of_lt (Nat.div_le_self a d) ha)]
  first | rfl | exact (Int.natCast_ediv _ _).symm
theorem pk_rem {a d : Nat} (ha : a < 2 ^ 31) (h0 : 0 < d) (hd : d < 2 ^ 31) : nI a - nI a / nI d * nI d = nI (a % d) := by
  rw [pk_div ha h0 hd, pk_mul, pk_sub (Nat.div_mul_le_self a d)]
  exact congrArg nI (by have := Nat.div_add_mod' a d; omega)
theorem pk_sub_toInt {a b : Nat} (ha : a < 2 ^ 30) (hb : b < 2 ^ 30) : (nI a - nI b).toInt = (a : Int) - b := by
  rw [Int32.toInt_sub, nI_toInt (by omega), nI_toInt (by omega)]
  exact Int.bmod_eq_of_le (by omega) (by omega)
theorem pk_lT {n : Nat} (h : n < 2 ^ 63) : (lN n).toInt = (n : Int) := lg_ofNat_toInt h
theorem pk_lLT {a b : Nat} (ha : a < 2 ^ 63) (hb : b < 2 ^ 63) : lN a < lN b ↔ a < b := by
  rw [Int64.lt_iff_toInt_lt, pk_lT ha, pk_lT hb]; omega
theorem pk_lLE {a b : Nat} (ha : a < 2 ^ 63) (hb : b < 2 ^ 63) : lN a ≤ lN b ↔ a ≤ b := by
  rw [Int64.le_iff_toInt_le, pk_lT ha, pk_lT hb]; omega
theorem pk_lEQ {a b : Nat} (ha : a < 2 ^ 63) (hb : b < 2 ^ 63) : lN a = lN b ↔ a = b := by
  rw [← Int64.toInt_inj, pk_lT ha, pk_lT hb]; omega
end
section
/-! the row of n and its fractions, in plain numbers -/
/-- the greatest number whose square is at most n (n up to 120) -/
def sd_r (n : Nat) : Nat := if n < 4 then 1 else if n < 9 then 2 else if n < 16 then 3 else if n < 25 then 4 else if n < 36 then 5 else if n < 49 then 6 else if n < 64 then 7 else if n < 81 then 8 else if n < 100 then 9 else 10
theorem sd_r_spec {n : Nat} (h2 : 2 ≤ n) (h : n ≤ 120) : sd_r n * sd_r n ≤ n ∧ n < (sd_r n + 1) * (sd_r n + 1) ∧ 1 ≤ sd_r n ∧ sd_r n ≤ 10 := by
  have H : ∀ n, n < 121 → 2 ≤ n → sd_r n * sd_r n ≤ n ∧ n < (sd_r n + 1) * (sd_r n + 1) ∧ 1 ≤ sd_r n ∧ sd_r n ≤ 10 := by decide +kernel
  exact H n (by omega) h2
theorem sd_ru {v r q : Nat} (h1 : r * r ≤ v) (h2 : v < (r + 1) * (r + 1)) (h3 : q * q ≤ v) (h4 : v < (q + 1) * (q + 1)) : r = q := by
  rcases Nat.lt_trichotomy r q with h | h | h
  · exact absurd (Nat.lt_of_lt_of_le h2 (Nat.le_trans (Nat.mul_le_mul (show r + 1 ≤ q from h) (show r + 1 ≤ q from h)) h3)) (Nat.lt_irrefl _)
  · exact h
  · exact absurd (Nat.lt_of_lt_of_le h4 (Nat.le_trans (Nat.mul_le_mul (show q + 1 ≤ r from h) (show q + 1 ≤ r from h)) h1)) (Nat.lt_irrefl _)
/-- squares: the same square, the same number -/
theorem sd_sqi {a b : Nat} (h : a * a = b * b) : a = b :=
  sd_ru (v := b * b) (by omega) (by rw [← h]; exact Nat.mul_self_lt_mul_self (Nat.lt_succ_self a)) (Nat.le_refl _) (Nat.mul_self_lt_mul_self (Nat.lt_succ_self b))
def sd_nx (n r : Nat) (s : Nat × Nat) : Nat × Nat :=
  ((r + s.1) / s.2 * s.2 - s.1, (n - ((r + s.1) / s.2 * s.2 - s.1) * ((r + s.1) / s.2 * s.2 - s.1)) / s.2)
/-- m and d ahead of term i -/
def sd_st (n r : Nat) : Nat → Nat × Nat
  | 0 => (0, 1)
  | i + 1 => sd_nx n r (sd_st n r i)
/-- term i -/
def sd_tm (n r i : Nat) : Nat := (r + (sd_st n r i).1) / (sd_st n r i).2
/-- the fraction ahead of term i, and the one before it -/
def sd_cv (n r : Nat) : Nat → (Nat × Nat) × (Nat × Nat)
  | 0 => ((1, 0), (0, 1))
  | i + 1 => ((sd_tm n r i * (sd_cv n r i).1.1 + (sd_cv n r i).2.1, sd_tm n r i * (sd_cv n r i).1.2 + (sd_cv n r i).2.2), (sd_cv n r i).1)
/-- the fraction ahead of term i: x and y -/
def sd_x (n r i : Nat) : Nat := (sd_cv n r i).1.1
def sd_y (n r i : Nat) : Nat := (sd_cv n r i).1.2
def sd_good (n r : Nat) (s : Nat × Nat) : Prop := 1 ≤ s.2 ∧ s.2 ≤ 1000 ∧ s.1 ≤ r ∧ s.1 ≤ (r + s.1) / s.2 * s.2 ∧ (sd_nx n r s).1 * (sd_nx n r s).1 ≤ n ∧ 1 ≤ (r + s.1) / s.2 ∧ (r + s.1) / s.2 ≤ 20
def sd_gB (n r : Nat) (s : Nat × Nat) : Bool := decide (1 ≤ s.2 ∧ s.2 ≤ 1000 ∧ s.1 ≤ r ∧ s.1 ≤ (r + s.1) / s.2 * s.2 ∧ (sd_nx n r s).1 * (sd_nx n r s).1 ≤ n ∧ 1 ≤ (r + s.1) / s.2 ∧ (r + s.1) / s.2 ≤ 20)
def sd_rowB (n r p : Nat) : Bool :=
  (decide (1 ≤ p ∧ p ≤ 16 ∧ (sd_st n r p).1 = r ∧ (sd_st n r p).2 = 1) && (List.range (p + 1)).all (fun i => sd_gB n r (sd_st n r i))) &&
  ((List.range p).all (fun i => decide (i = 0 ∨ (sd_st n r i).2 ≠ 1)) &&
  (List.range p).all (fun q => decide (q = 0) || (List.range (p + 1)).any (fun i => decide (1 ≤ i ∧ sd_tm n r i ≠ sd_tm n r (i + q)))))
def sd_cvB (n r : Nat) : Bool :=
  decide (3000 < sd_y n r 15) && (List.range 15).all (fun i => decide (3000 < sd_y n r i) || decide (sd_x n r i ≤ 40000 ∧ sd_y n r (i + 1) ≤ 100000))
/-- (x, y) is one, two or three times a fraction of the row -/
def sd_mem (n r x y : Nat) : Bool := (List.range 15).any (fun i => decide (x = sd_x n r i ∧ y = sd_y n r i) || (decide (x = 2 * sd_x n r i ∧ y = 2 * sd_y n r i) || decide (x = 3 * sd_x n r i ∧ y = 3 * sd_y n r i)))
/-! the scan of all y, downward, with the root of n y y at hand: the kernel reckons it -/
def sd_nxt (n s k : Nat) (f : Nat → Bool) (c : Nat) : Bool :=
  cond (Nat.ble (Nat.mul (Nat.sub (Nat.succ c) s) (Nat.sub (Nat.succ c) s)) (Nat.mul n (Nat.mul k k))) (f (Nat.sub (Nat.succ c) s)) (f (Nat.sub (Nat.sub (Nat.succ c) s) 1))
def sd_in (n s : Nat) (M : Nat → Nat → Bool) (k : Nat) (f : Nat → Bool) (c a : Nat) : Bool :=
  and (and (or (Nat.ble (Nat.add a s) (Nat.succ (Nat.add c c))) (and (Nat.ble a (Nat.succ (Nat.add c c))) (M (Nat.succ (Nat.succ c)) (Nat.succ k)))) (or (Nat.ble s a) (M (Nat.succ c) (Nat.succ k)))) (sd_nxt n s k f c)
noncomputable def sd_body (n s : Nat) (M : Nat → Nat → Bool) (k : Nat) (f : Nat → Bool) (c : Nat) : Bool :=
  Nat.rec (motive := fun _ => Bool) false (fun a _ => sd_in n s M k f c a) (Nat.sub (Nat.mul n (Nat.mul (Nat.succ k) (Nat.succ k))) (Nat.mul (Nat.succ c) (Nat.succ c)))
noncomputable def sd_scan (n s : Nat) (M : Nat → Nat → Bool) (y : Nat) : Nat → Bool :=
  Nat.rec (motive := fun _ => Nat → Bool) (fun _ => true) (fun k ih q => Nat.rec (motive := fun _ => Bool) false (fun c _ => sd_body n s M k ih c) q) y
def sd_rt (v : Nat) : Nat → Nat → Nat
  | 0, r => r
  | j + 1, r => cond (Nat.ble ((r + 2 ^ j) * (r + 2 ^ j)) v) (sd_rt v j (r + 2 ^ j)) (sd_rt v j r)
theorem sd_nxt_s {n s k : Nat} {f : Nat → Bool} {c : Nat} (h : sd_nxt n s k f c = true) : ∃ q, f q = true := by
  unfold sd_nxt at h
  generalize Nat.ble _ _ = b at h
  cases b
  · exact ⟨_, h⟩
  · exact ⟨_, h⟩
def sd_at (n s : Nat) (M : Nat → Nat → Bool) (y : Nat) : Prop := ∃ q, q * q < n * (y * y) ∧ n * (y * y) < (q + 1) * (q + 1) ∧ (n * (y * y) - q * q ≤ s → M q y = true) ∧ ((q + 1) * (q + 1) - n * (y * y) ≤ s → M (q + 1) y = true)
theorem sd_sq1 (c : Nat) : (c + 1) * (c + 1) = c * c + 2 * c + 1 := by
  rw [Nat.add_mul, Nat.mul_add]; omega
theorem sd_body_s {n s : Nat} {M : Nat → Nat → Bool} {k : Nat} {f : Nat → Bool} {c : Nat} (h : sd_body n s M k f c = true) : sd_at n s M (k + 1) ∧ ∃ q, f q = true := by
  unfold sd_body at h
  have hA : ∀ A, A = Nat.sub (Nat.mul n (Nat.mul (Nat.succ k) (Nat.succ k))) (Nat.mul (Nat.succ c) (Nat.succ c)) → A = n * ((k + 1) * (k + 1)) - (c + 1) * (c + 1) := fun A e => e
  generalize hB : Nat.sub (Nat.mul n (Nat.mul (Nat.succ k) (Nat.succ k))) (Nat.mul (Nat.succ c) (Nat.succ c)) = A at h
  have hA := hA A hB.symm
  cases A with
  | zero => exact absurd (show false = true from h) (by decide)
  | succ a =>
    have h : sd_in n s M k f c a = true := h
    unfold sd_in at h
    rw [Bool.and_eq_true, Bool.and_eq_true, Bool.or_eq_true, Bool.or_eq_true, Bool.and_eq_true] at h
    obtain ⟨⟨h1, h2⟩, h3⟩ := h
    have l1 : Nat.ble (Nat.add a s) (Nat.succ (Nat.add c c)) = true → a + s ≤ c + c + 1 := fun z => Nat.le_of_ble_eq_true z
    have l2 : Nat.ble a (Nat.succ (Nat.add c c)) = true → a ≤ c + c + 1 := fun z => Nat.le_of_ble_eq_true z
    have l3 : Nat.ble s a = true → s ≤ a := fun z => Nat.le_of_ble_eq_true z
    have e2 := sd_sq1 (c + 1)
    refine ⟨⟨c + 1, ?_, ?_, ?_, ?_⟩, sd_nxt_s h3⟩
    · omega
    · rcases h1 with z | z
      · have := l1 z; omega
      · have := l2 z.1; omega
    · intro z
      rcases h2 with w | w
      · have := l3 w; omega
      · exact w
    · intro z
      rcases h1 with w | w
      · have := l1 w; omega
      · exact w.2
theorem sd_scan_s {n s : Nat} {M : Nat → Nat → Bool} : ∀ Y q, sd_scan n s M Y q = true → ∀ y, 1 ≤ y → y ≤ Y → sd_at n s M y := by
  intro Y
  induction Y with
  | zero => intro q _ y h1 h2; omega
  | succ k ih =>
    intro q h y h1 h2
    cases q with
    | zero => exact absurd (show false = true from h) (by decide)
    | succ c =>
      obtain ⟨a, q', b⟩ := sd_body_s (show sd_body n s M k (sd_scan n s M k) c = true from h)
      by_cases e : y = k + 1
      · rw [e]; exact a
      · exact ih q' b y h1 (by omega)
end
section
/-! the table of periods, and the check of every n up to 120 -/
def sd_p (n : Nat) : Nat := [0, 0, 1, 2, 0, 1, 2, 4, 2, 0, 1, 2, 2, 5, 4, 2, 0, 1, 2, 6, 2, 6, 6, 4, 2, 0, 1, 2, 4, 5, 2, 8, 4, 4, 4, 2, 0, 1, 2, 2, 2, 3, 2, 10, 8, 6, 12, 4, 2, 0, 1, 2, 6, 5, 6, 4, 2, 6, 7, 6, 4, 11, 4, 2, 0, 1, 2, 10, 2, 8, 6, 8, 2, 7, 5, 4, 12, 6, 4, 4, 2, 0, 1, 2, 2, 5, 10, 2, 6, 5, 2, 8, 8, 10, 16, 4, 4, 11, 4, 2, 0, 1, 2, 12, 2, 2, 9, 6, 8, 15, 2, 6, 6, 9, 6, 10, 10, 6, 10, 4, 2].getD n 0
noncomputable def sd_ckS (n s : Nat) : Bool := and (and (sd_rowB n s (sd_p n)) (sd_cvB n s)) (sd_scan n s (sd_mem n s) 3000 (sd_rt (n * 9000000) 16 0))
noncomputable def sd_ckF (n : Nat) : Bool := Nat.rec (motive := fun _ => Bool) false (fun s _ => sd_ckS n (Nat.succ s)) (sd_r n)
noncomputable def sd_ck0 (n : Nat) : Bool := Nat.rec (motive := fun _ => Bool) true (fun m _ => sd_ckF (Nat.succ m)) n
noncomputable def sd_t (n : Nat) : Bool := cond (Nat.beq (sd_r n * sd_r n) n) true (sd_ck0 n)
theorem sd_k0 : (List.range' 2 10).all sd_t = true := by decide +kernel
theorem sd_k1 : (List.range' 12 10).all sd_t = true := by decide +kernel
theorem sd_k2 : (List.range' 22 10).all sd_t = true := by decide +kernel
theorem sd_k3 : (List.range' 32 10).all sd_t = true := by decide +kernel
theorem sd_k4 : (List.range' 42 10).all sd_t = true := by decide +kernel
theorem sd_k5 : (List.range' 52 10).all sd_t = true := by decide +kernel
theorem sd_k6 : (List.range' 62 10).all sd_t = true := by decide +kernel
theorem sd_k7 : (List.range' 72 10).all sd_t = true := by decide +kernel
theorem sd_k8 : (List.range' 82 10).all sd_t = true := by decide +kernel
theorem sd_k9 : (List.range' 92 10).all sd_t = true := by decide +kernel
theorem sd_k10 : (List.range' 102 10).all sd_t = true := by decide +kernel
theorem sd_k11 : (List.range' 112 9).all sd_t = true := by decide +kernel
theorem sd_tall {n : Nat} (h2 : 2 ≤ n) (h : n ≤ 120) : sd_t n = true := by
  by_cases z0 : n < 12
  · exact List.all_eq_true.mp sd_k0 n (List.mem_range'_1.mpr ⟨by omega, by omega⟩)
  by_cases z1 : n < 22
  · exact List.all_eq_true.mp sd_k1 n (List.mem_range'_1.mpr ⟨by omega, by omega⟩)
  by_cases z2 : n < 32
  · exact List.all_eq_true.mp sd_k2 n (List.mem_range'_1.mpr ⟨by omega, by omega⟩)
  by_cases z3 : n < 42
  · exact List.all_eq_true.mp sd_k3 n (List.mem_range'_1.mpr ⟨by omega, by omega⟩)
  by_cases z4 : n < 52
  · exact List.all_eq_true.mp sd_k4 n (List.mem_range'_1.mpr ⟨by omega, by omega⟩)
  by_cases z5 : n < 62
  · exact List.all_eq_true.mp sd_k5 n (List.mem_range'_1.mpr ⟨by omega, by omega⟩)
  by_cases z6 : n < 72
  · exact List.all_eq_true.mp sd_k6 n (List.mem_range'_1.mpr ⟨by omega, by omega⟩)
  by_cases z7 : n < 82
  · exact List.all_eq_true.mp sd_k7 n (List.mem_range'_1.mpr ⟨by omega, by omega⟩)
  by_cases z8 : n < 92
  · exact List.all_eq_true.mp sd_k8 n (List.mem_range'_1.mpr ⟨by omega, by omega⟩)
  by_cases z9 : n < 102
  · exact List.all_eq_true.mp sd_k9 n (List.mem_range'_1.mpr ⟨by omega, by omega⟩)
  by_cases z10 : n < 112
  · exact List.all_eq_true.mp sd_k10 n (List.mem_range'_1.mpr ⟨by omega, by omega⟩)
  by_cases z11 : n < 121
  · exact List.all_eq_true.mp sd_k11 n (List.mem_range'_1.mpr ⟨by omega, by omega⟩)
  omega
theorem sd_all {n : Nat} (h2 : 2 ≤ n) (h : n ≤ 120) (hn : sd_r n * sd_r n ≠ n) : sd_ckS n (sd_r n) = true := by
  have t := sd_tall h2 h
  unfold sd_t at t
  have hb : Nat.beq (sd_r n * sd_r n) n = false := by
    cases hb : Nat.beq (sd_r n * sd_r n) n with
    | true => exact absurd (Nat.eq_of_beq_eq_true hb) hn
    | false => rfl
  rw [hb] at t
  have t : sd_ck0 n = true := t
  obtain ⟨m, rfl⟩ : ∃ m, n = m + 1 := ⟨n - 1, by omega⟩
  have t : sd_ckF (m + 1) = true := t
  unfold sd_ckF at t
  have r1 := (sd_r_spec h2 h).2.2.1
  generalize sd_r (m + 1) = r at t r1 ⊢
  cases r with
  | zero => omega
  | succ s => exact t
end
section
/-! what the checks say -/
def sd_Row (n r p : Nat) : Prop := (1 ≤ p ∧ p ≤ 16) ∧ sd_st n r p = (r, 1) ∧ (∀ i, 1 ≤ i → i < p → (sd_st n r i).2 ≠ 1) ∧ (∀ i, sd_good n r (sd_st n r i)) ∧ (∀ i, 1 ≤ i → sd_st n r (i + p) = sd_st n r i) ∧ (∀ q, 1 ≤ q → q < p → ∃ i, 1 ≤ i ∧ i ≤ p ∧ sd_tm n r i ≠ sd_tm n r (i + q))
theorem sd_nx1 (n r m : Nat) : sd_nx n r (m, 1) = (r, n - r * r) := by
  show ((r + m) / 1 * 1 - m, (n - ((r + m) / 1 * 1 - m) * ((r + m) / 1 * 1 - m)) / 1) = _
  rw [Nat.div_one, Nat.mul_one, Nat.add_sub_cancel, Nat.div_one]
theorem sd_perE {n r p : Nat} (hp : sd_st n r p = (r, 1)) : ∀ i, sd_st n r (i + 1 + p) = sd_st n r (i + 1) := by
  intro i
  induction i with
  | zero =>
    rw [show 0 + 1 + p = p + 1 from by omega]
    show sd_nx n r (sd_st n r p) = sd_nx n r (0, 1)
    rw [hp, sd_nx1, sd_nx1]
  | succ i ih =>
    rw [show i + 1 + 1 + p = (i + 1 + p) + 1 from by omega]
    show sd_nx n r (sd_st n r (i + 1 + p)) = sd_nx n r (sd_st n r (i + 1))
    rw [ih]
theorem sd_modE {n r p : Nat} (h1 : 1 ≤ p) (hp : sd_st n r p = (r, 1)) : ∀ i, sd_st n r (1 + i) = sd_st n r (1 + i % p) := by
  intro i
  induction i using Nat.strongRecOn with
  | _ i ih =>
    by_cases h : i < p
    · rw [Nat.mod_eq_of_lt h]
    · have e := sd_perE hp (i - p)
      rw [show i - p + 1 + p = 1 + i from by omega, show i - p + 1 = 1 + (i - p) from by omega, ih (i - p) (by omega)] at e
      rw [e, ← Nat.mod_eq_sub_mod (by omega)]
theorem sd_rowR {n r p : Nat} (h : sd_rowB n r p = true) : sd_Row n r p := by
  unfold sd_rowB at h
  simp only [Bool.and_eq_true, decide_eq_true_eq, List.all_eq_true, List.mem_range, Bool.or_eq_true, List.any_eq_true] at h
  obtain ⟨⟨⟨h1, h2, h3, h4⟩, h5⟩, h6, h7⟩ := h
  have hp : sd_st n r p = (r, 1) := Prod.ext h3 h4
  refine ⟨⟨h1, h2⟩, hp, ?_, ?_, ?_, ?_⟩
  · intro i a b
    rcases h6 i b with c | c
    · omega
    · exact c
  · intro i
    have g : ∀ i, i < p + 1 → sd_good n r (sd_st n r i) := by
      intro i a
      have z := h5 i a
      unfold sd_gB at z
      rw [decide_eq_true_eq] at z
      exact z
    cases i with
    | zero => exact g 0 (by omega)
    | succ i =>
      rw [show i + 1 = 1 + i from by omega, sd_modE h1 hp]
      have := Nat.mod_lt i h1
      exact g _ (by omega)
  · intro i a
    obtain ⟨j, rfl⟩ : ∃ j, i = j + 1 := ⟨i - 1, by omega⟩
    exact sd_perE hp j
  · intro q a b
    rcases h7 q b with c | ⟨i, c, d, e⟩
    · omega
    · exact ⟨i, d, by omega, e⟩
/-- the facts of one n -/
def sd_Cv (n r : Nat) : Prop := 3000 < sd_y n r 15 ∧ ∀ i, i < 15 → sd_y n r i ≤ 3000 → sd_x n r i ≤ 40000 ∧ sd_y n r (i + 1) ≤ 100000
theorem sd_cvR {n r : Nat} (h : sd_cvB n r = true) : sd_Cv n r := by
  unfold sd_cvB at h
  simp only [Bool.and_eq_true, decide_eq_true_eq, List.all_eq_true, List.mem_range, Bool.or_eq_true] at h
  refine ⟨h.1, fun i a b => ?_⟩
  rcases h.2 i a with c | c
  · omega
  · exact c
def sd_N (n : Nat) : Prop := 2 ≤ n ∧ n ≤ 120 ∧ sd_r n * sd_r n ≠ n
theorem sd_NR {n : Nat} (h : sd_N n) : sd_Row n (sd_r n) (sd_p n) := by
  have t := sd_all h.1 h.2.1 h.2.2
  unfold sd_ckS at t
  rw [Bool.and_eq_true, Bool.and_eq_true] at t
  exact sd_rowR t.1.1
theorem sd_NC {n : Nat} (h : sd_N n) : sd_Cv n (sd_r n) := by
  have t := sd_all h.1 h.2.1 h.2.2
  unfold sd_ckS at t
  rw [Bool.and_eq_true, Bool.and_eq_true] at t
  exact sd_cvR t.1.2
theorem sd_NS {n : Nat} (h : sd_N n) : ∀ y, 1 ≤ y → y ≤ 3000 → sd_at n (sd_r n) (sd_mem n (sd_r n)) y := by
  have t := sd_all h.1 h.2.1 h.2.2
  unfold sd_ckS at t
  rw [Bool.and_eq_true, Bool.and_eq_true] at t
  exact sd_scan_s _ _ t.2
/-- the ys of the row grow -/
theorem sd_ymono {n r p : Nat} (R : sd_Row n r p) : ∀ i j, i ≤ j → sd_y n r i ≤ sd_y n r j := by
  intro i j
  induction j with
  | zero => intro h; rw [show i = 0 from by omega]; exact Nat.le_refl _
  | succ j ih =>
    intro h
    by_cases e : i = j + 1
    · rw [e]; exact Nat.le_refl _
    · refine Nat.le_trans (ih (by omega)) ?_
      show (sd_cv n r j).1.2 ≤ sd_tm n r j * (sd_cv n r j).1.2 + (sd_cv n r j).2.2
      have t : 1 ≤ sd_tm n r j := (R.2.2.2.1 j).2.2.2.2.2.1
      have := Nat.mul_le_mul t (Nat.le_refl (sd_cv n r j).1.2)
      omega
/-- y solves the equation for n and k -/
def sd_sol (n : Nat) (κ : Int) (y : Nat) : Prop := ∃ x : Nat, ((x * x : Nat) : Int) = ((n * y * y : Nat) : Int) + κ
/-- every solution is one, two or three times a fraction of the row -/
theorem sd_full {n : Nat} (H : sd_N n) {x y : Nat} {κ : Int} (h1 : -(sd_r n : Int) ≤ κ) (h2 : κ ≤ (sd_r n : Int)) (h0 : κ ≠ 0) (hy : y ≤ 3000) (e : ((x * x : Nat) : Int) = ((n * y * y : Nat) : Int) + κ) :
    ∃ f i, 1 ≤ f ∧ f ≤ 3 ∧ i < 15 ∧ x = f * sd_x n (sd_r n) i ∧ y = f * sd_y n (sd_r n) i := by
  obtain ⟨rs, _, r1, r10⟩ := sd_r_spec H.1 H.2.1
  have S := sd_NS H
  have M : ∀ x y, sd_mem n (sd_r n) x y = true → ∃ f i, 1 ≤ f ∧ f ≤ 3 ∧ i < 15 ∧ x = f * sd_x n (sd_r n) i ∧ y = f * sd_y n (sd_r n) i := by
    intro x y h
    unfold sd_mem at h
    simp only [List.any_eq_true, List.mem_range, Bool.or_eq_true, decide_eq_true_eq] at h
    obtain ⟨i, hi, h | h | h⟩ := h
    · exact ⟨1, i, by omega, by omega, hi, by rw [Nat.one_mul]; exact h.1, by rw [Nat.one_mul]; exact h.2⟩
    · exact ⟨2, i, by omega, by omega, hi, h.1, h.2⟩
    · exact ⟨3, i, by omega, by omega, hi, h.1, h.2⟩
  generalize sd_r n = s at *
  rcases Nat.eq_zero_or_pos y with y0 | y1
  · subst y0
    rw [Nat.mul_zero] at e
    refine ⟨x, 0, ?_, ?_, by omega, ?_, ?_⟩
    · rcases Nat.eq_zero_or_pos x with z | z
      · subst z; omega
      · exact z
    · rcases Nat.lt_or_ge 3 x with z | z
      · have := Nat.mul_le_mul (show 4 ≤ x from z) (show 4 ≤ x from z); omega
      · exact z
    · exact (Nat.mul_one x).symm
    · exact (Nat.mul_zero x).symm
  · obtain ⟨q, q1, q2, q3, q4⟩ := S y y1 hy
    rw [Nat.mul_assoc] at e
    have nN : n ≤ n * (y * y) := Nat.le_mul_of_pos_right n (Nat.mul_pos y1 y1)
    have qs : s ≤ q := by
      rcases Nat.lt_or_ge q s with z | z
      · have := Nat.mul_le_mul (show q + 1 ≤ s from z) (show q + 1 ≤ s from z); omega
      · exact z
    generalize n * (y * y) = N at *
    rcases Nat.lt_or_ge x q with z | z
    · obtain ⟨w, rfl⟩ : ∃ w, q = w + 1 := ⟨q - 1, by omega⟩
      have a := Nat.mul_le_mul (show x ≤ w from by omega) (show x ≤ w from by omega)
      have b := sd_sq1 w
      omega
    · by_cases z1 : x = q
      · subst z1; exact M _ _ (q3 (by omega))
      · by_cases z2 : x = q + 1
        · subst z2; exact M _ _ (q4 (by omega))
        · have a := Nat.mul_le_mul (show q + 1 + 1 ≤ x from by omega) (show q + 1 + 1 ≤ x from by omega)
          have b := sd_sq1 (q + 1)
          omega
/-- fraction i, f times, solves it within 3000, and z is its y -/
def sd_P (n r : Nat) (κ : Int) (f z : Nat) : Prop := ∃ i, i < 15 ∧ (((f * sd_x n r i) * (f * sd_x n r i) : Nat) : Int) = ((n * (f * sd_y n r i) * (f * sd_y n r i) : Nat) : Int) + κ ∧ z = f * sd_y n r i ∧ z ≤ 3000
theorem sd_law {n : Nat} (H : sd_N n) {κ : Int} (h0 : κ ≠ 0) (hk : κ * κ < (n : Int)) (z : Nat) : (sd_P n (sd_r n) κ 1 z ∨ sd_P n (sd_r n) κ 2 z ∨ sd_P n (sd_r n) κ 3 z) ↔ (z ≤ 3000 ∧ sd_sol n κ z) := by
  constructor
  · intro h
    have : ∀ f, sd_P n (sd_r n) κ f z → z ≤ 3000 ∧ sd_sol n κ z := by
      intro f ⟨i, _, e, ez, hz⟩
      subst ez
      exact ⟨hz, _, e⟩
    rcases h with h | h | h
    · exact this _ h
    · exact this _ h
    · exact this _ h
  · intro ⟨hz, x, e⟩
    obtain ⟨_, r2, _, _⟩ := sd_r_spec H.1 H.2.1
    have B : ∀ a : Nat, ((a : Int) * a < (n : Int)) → a ≤ sd_r n := by
      intro a h
      rcases Nat.lt_or_ge (sd_r n) a with w | w
      · have m := Nat.mul_le_mul (show sd_r n + 1 ≤ a from w) (show sd_r n + 1 ≤ a from w)
        rw [← Int.natCast_mul] at h
        omega
      · exact w
    have b : -(sd_r n : Int) ≤ κ ∧ κ ≤ (sd_r n : Int) := by
      obtain ⟨a, rfl | rfl⟩ := Int.eq_nat_or_neg κ
      · have := B a hk; omega
      · have := B a (by rw [Int.neg_mul_neg] at hk; exact hk); omega
    obtain ⟨f, i, f1, f3, hi, ex, ey⟩ := sd_full H b.1 b.2 h0 hz e
    have P : sd_P n (sd_r n) κ f z := ⟨i, hi, by rw [← ex, ← ey]; exact e, ey, hz⟩
    have : f = 1 ∨ f = 2 ∨ f = 3 := by omega
    rcases this with rfl | rfl | rfl
    · exact Or.inl P
    · exact Or.inr (Or.inl P)
    · exact Or.inr (Or.inr P)
end
section
/-! the roots -/
theorem sd_xr_step {post : Int32 → Prop} {v r w n : Nat} (hv : v < 2 ^ 31) (hw : 0 < w) (hb : r + w ≤ 65536)
    (A : (r + w) * (r + w) ≤ v → wX_rootOf_5 post (nI v) n (nI (r + w)) (nI (w / 2)))
    (B : v < (r + w) * (r + w) → wX_rootOf_5 post (nI v) n (nI r) (nI (w / 2))) : wX_rootOf_5 post (nI v) (n + 1) (nI r) (nI w) := by
  have e2 : nI w / 2 = nI (w / 2) := pk_div (d := 2) (by omega) (by omega) (by omega)
  have e1 : (nI r + nI w).toInt64 = lN (r + w) := by rw [nI_add, nI_l (by omega)]
  have q : (r + w) * (r + w) < 2 ^ 63 := Nat.lt_of_le_of_lt (Nat.mul_le_mul hb hb) (by decide)
  have t2 : ¬ (2 : Int32) = 0 := by decide
  have c : (nI v).toInt64 < lN (r + w) * lN (r + w) ↔ v < (r + w) * (r + w) := by
    rw [nI_l hv, lN_mul]; exact pk_lLT (by omega) q
  refine br_f (nI_nle hw (by omega)) (nm_r e1 ?_)
  by_cases h : v < (r + w) * (r + w)
  · exact br_t (c.mpr h) ⟨t2, nm_r e2 (B h)⟩
  · exact br_f (fun z => h (c.mp z)) (nm_r (nI_add r w) ⟨t2, nm_r e2 (A (Nat.le_of_not_lt h))⟩)
theorem sd_xr_end {post : Int32 → Prop} {v r n : Nat} (h : post (nI r)) : wX_rootOf_5 post (nI v) (n + 1) (nI r) (nI 0) := br_t (show nI 0 ≤ 0 by decide) h
theorem sd_xr_loop {post : Int32 → Prop} {v : Nat} (hv : v < 2 ^ 31) (K : ∀ r, r * r ≤ v → v < (r + 1) * (r + 1) → post (nI r)) : ∀ (j r n : Nat), r + 2 * 2 ^ j ≤ 65536 → r * r ≤ v → v < (r + 2 * 2 ^ j) * (r + 2 * 2 ^ j) → j + 1 < n → wX_rootOf_5 post (nI v) n (nI r) (nI (2 ^ j)) := by
  intro j
  induction j with
  | zero =>
    intro r n h1 h2 h3 hn
    obtain ⟨m, rfl⟩ : ∃ m, n = m + 1 + 1 := ⟨n - 2, by omega⟩
    refine sd_xr_step hv (by decide) (by omega) (fun h => sd_xr_end (K _ h ?_)) (fun h => sd_xr_end (K _ h2 h))
    exact h3
  | succ j ih =>
    intro r n h1 h2 h3 hn
    obtain ⟨m, rfl⟩ : ∃ m, n = m + 1 := ⟨n - 1, by omega⟩
    have e : 2 ^ (j + 1) / 2 = 2 ^ j := by rw [Nat.pow_succ]; omega
    have e' : 2 ^ (j + 1) = 2 * 2 ^ j := by rw [Nat.pow_succ]; omega
    have hp : 0 < 2 ^ j := Nat.two_pow_pos j
    refine sd_xr_step hv (Nat.two_pow_pos _) (by omega) (fun h => ?_) (fun h => ?_)
    · rw [e]
      refine ih _ m (by omega) h ?_ (by omega)
      rw [show r + 2 ^ (j + 1) + 2 * 2 ^ j = r + 2 * 2 ^ (j + 1) from by omega]
      exact h3
    · rw [e]
      refine ih _ m (by omega) h2 ?_ (by omega)
      rw [← e']
      exact h
theorem sd_xr {post : Int32 → Prop} {v : Nat} (hv : v < 2 ^ 31) (K : ∀ r, r * r ≤ v → v < (r + 1) * (r + 1) → post (nI r)) : wpX_rootOf post (nI v) :=
  ⟨17, sd_xr_loop hv K 15 0 17 (by decide) (Nat.zero_le _) (Nat.lt_of_lt_of_le hv (by decide)) (by decide)⟩
theorem sd_yr_loop {post : Int32 → Prop} {v : Nat} (hv : v < 2 ^ 31) (K : ∀ r, r * r ≤ v → v < (r + 1) * (r + 1) → post (nI r)) : ∀ (n lo hi : Nat), lo ≤ hi → hi ≤ 33200 → lo * lo ≤ v → v < (hi + 1) * (hi + 1) → hi - lo < n → wY_rootOf_5 post (nI v) n (nI lo) (nI hi) := by
  intro n
  induction n with
  | zero => intro lo hi _ _ _ _ h; omega
  | succ n ih =>
    intro lo hi h1 h2 h3 h4 hn
    by_cases c : hi ≤ lo
    · have : hi = lo := by omega
      subst this
      exact br_t (nI_le c (by omega)) (K _ h3 h4)
    · obtain ⟨m, em⟩ : ∃ m, (lo + hi + 1) / 2 = m + 1 := ⟨(lo + hi + 1) / 2 - 1, by omega⟩
      have e : (nI lo + nI hi + 1) / 2 = nI (m + 1) := by
        rw [nI_add, nI_1, ← em]; exact pk_div (d := 2) (by omega) (by omega) (by omega)
      have q : (m + 1) * (m + 1) < 2 ^ 31 := Nat.lt_of_le_of_lt (Nat.mul_le_mul (show m + 1 ≤ 33200 by omega) (show m + 1 ≤ 33200 by omega)) (by decide)
      have cc : nI v < nI (m + 1) * nI (m + 1) ↔ v < (m + 1) * (m + 1) := by
        rw [pk_mul]; exact nI_ltI hv q
      refine br_f (nI_ge (by omega) (by omega)) ⟨by decide, nm_r e ?_⟩
      by_cases h : v < (m + 1) * (m + 1)
      · exact br_t (cc.mpr h) (nm_r (nI_pred m) (ih lo m (by omega) (by omega) h3 h (by omega)))
      · exact br_f (fun z => h (cc.mp z)) (ih (m + 1) hi (by omega) h2 (Nat.le_of_not_lt h) h4 (by omega))
theorem sd_yr {post : Int32 → Prop} {v : Nat} (hv : v ≤ 1100000000) (K : ∀ r, r * r ≤ v → v < (r + 1) * (r + 1) → post (nI r)) : wpY_rootOf post (nI v) :=
  ⟨33201, sd_yr_loop (by omega) K 33201 0 33200 (by decide) (by decide) (Nat.zero_le _) (Nat.lt_of_le_of_lt hv (by decide)) (by decide)⟩
/-! one step of the row, in ints -/
theorem sd_step {n r p : Nat} (hn : n ≤ 120) (hr : r ≤ 10) (R : sd_Row n r p) (i : Nat) :
    ¬ nI (sd_st n r i).2 = 0 ∧ (nI r + nI (sd_st n r i).1) / nI (sd_st n r i).2 = nI (sd_tm n r i) ∧
    nI (sd_tm n r i) * nI (sd_st n r i).2 - nI (sd_st n r i).1 = nI (sd_st n r (i + 1)).1 ∧
    (nI n - nI (sd_st n r (i + 1)).1 * nI (sd_st n r (i + 1)).1) / nI (sd_st n r i).2 = nI (sd_st n r (i + 1)).2 := by
  obtain ⟨g1, g2, g3, g4, g5, g6, g7⟩ := R.2.2.2.1 i
  have g5 : (sd_st n r (i + 1)).1 * (sd_st n r (i + 1)).1 ≤ n := g5
  refine ⟨nI_ne0 g1 (by omega), ?_, ?_, ?_⟩
  · rw [nI_add, pk_div (by omega) g1 (by omega)]; rfl
  · rw [pk_mul, pk_sub (show (sd_st n r i).1 ≤ sd_tm n r i * (sd_st n r i).2 from g4)]; rfl
  · rw [pk_mul, pk_sub g5, pk_div (by omega) g1 (by omega)]; rfl
/-- findRow's loop -/
theorem sd_fr {post : SX → Prop} {n r p : Nat} (hn : n ≤ 120) (hr : r ≤ 10) (R : sd_Row n r p) {fc : Int32} {ys : Nat → Int32}
    (K : ∀ T, (∀ l, l ≤ p → T l = nI (sd_tm n r l)) → post (nI n, nI p, fc, T, ys)) :
    ∀ (d i f : Nat) (T : Nat → Int32), i + d = p → 0 < d → d < f → (∀ l, l < i → T l = nI (sd_tm n r l)) → wX_findRow_20 post (nI r) (nI n) fc f (nI (sd_st n r i).1) (nI (sd_st n r i).2) (nI i) 0 T ys := by
  intro d
  induction d with
  | zero => intro i f T _ h; omega
  | succ d ih =>
    intro i f T e _ hf hT
    obtain ⟨f, rfl⟩ : ∃ g, f = g + 1 + 1 := ⟨f - 2, by omega⟩
    have p16 := R.1.2
    obtain ⟨s1, s2, s3, s4⟩ := sd_step hn hr R i
    have i64 : ¬ (64 : Int32) ≤ nI i := nI_ge (b := 64) (by omega) (by decide)
    have ci : (nI i).toNatClampNeg = i := nI_clamp (by omega)
    have T1 : ∀ l, l < i + 1 → upd T (nI i).toNatClampNeg (nI (sd_tm n r i)) l = nI (sd_tm n r l) := by
      intro l hl
      rw [ci]
      by_cases c : l = i
      · rw [c, pk_us]
      · rw [pk_un c]; exact hT l (by omega)
    refine br_f i64 (br_t rfl ⟨s1, nm_r s2 ⟨vp_in_nI (by omega) (by decide), nm_e (nm_r s3 ⟨s1, nm_r s4 ?_⟩)⟩⟩)
    by_cases c : d = 0
    · have ep : i + 1 = p := by omega
      have es : sd_st n r (i + 1) = (r, 1) := by rw [ep]; exact R.2.1
      have z : nI (sd_st n r (i + 1)).2 = 1 := by rw [es]; rfl
      have c1 : (nI (i + 1)).toNatClampNeg = i + 1 := nI_clamp (by omega)
      refine br_t z (nm_r (nI_1 i) ⟨by rw [nI_1]; exact vp_in_nI (by omega) (by decide), nm_e (nm_r (nI_1 i) ?_)⟩)
      have i64' : ¬ (64 : Int32) ≤ nI (i + 1) := nI_ge (b := 64) (by omega) (by decide)
      refine br_f i64' (br_f (nI_ne0 (by omega) (by omega)) ?_)
      rw [ep]
      refine K _ ?_
      intro l hl
      rw [nI_1, c1, R.2.1]
      by_cases c : l = i + 1
      · rw [c, pk_us]
        show nI r + nI r = nI ((r + (sd_st n r (i + 1)).1) / (sd_st n r (i + 1)).2)
        rw [es, nI_add]
        exact congrArg nI (Nat.div_one _).symm
      · rw [pk_un c]; exact T1 l (by omega)
    · have g := R.2.2.2.1 (i + 1)
      have z : ¬ nI (sd_st n r (i + 1)).2 = 1 := by
        intro z
        have := (nI_eq (b := 1) (by have := g.2.1; omega) (by decide)).mp z
        exact R.2.2.1 (i + 1) (by omega) (by omega) this
      exact br_f z (nm_r (nI_1 i) (ih (i + 1) (f + 1) _ (by omega) (by omega) (by omega) T1))
theorem sd_find_row {post : SX → Prop} {n : Nat} (H : sd_N n) {fp fc : Int32} {T ys : Nat → Int32}
    (K : ∀ T, (∀ l, l ≤ sd_p n → T l = nI (sd_tm n (sd_r n) l)) → post (nI n, nI (sd_p n), fc, T, ys)) : wpX_findRow post (nI n, fp, fc, T, ys) := by
  have R := sd_NR H
  obtain ⟨r1, r2, r3, r4⟩ := sd_r_spec H.1 H.2.1
  have h120 := H.2.1
  refine sd_xr (post := fun r_1 => ∃ n20 : Nat, wX_findRow_20 post r_1 (nI n) fc n20 0 1 0 0 T ys) (by omega) ?_
  intro r a b
  rw [sd_ru a b r1 r2]
  exact ⟨sd_p n + 1, sd_fr h120 r4 R K (sd_p n) 0 (sd_p n + 1) T (by omega) R.1.1 (by omega) (fun l hl => absurd hl (Nat.not_lt_zero l))⟩
/-- termAt -/
theorem sd_termAt {post : Int32 → Prop} {n r p j : Nat} (R : sd_Row n r p) (hj : j < 2 ^ 31) {fn fc : Int32} {T ys : Nat → Int32} (hT : ∀ l, l ≤ p → T l = nI (sd_tm n r l)) (K : post (nI (sd_tm n r j))) : wpX_termAt post (fn, nI p, fc, T, ys) (nI j) := by
  have p1 := R.1.1
  have p16 := R.1.2
  cases j with
  | zero =>
    refine br_t rfl ?_
    rw [hT 0 (Nat.zero_le _)]; exact K
  | succ j =>
    have m := Nat.mod_lt j p1
    have e : (1 : Int32) + ((nI (j + 1) - 1) - (nI (j + 1) - 1) / nI p * nI p) = nI (1 + j % p) := by
      rw [nI_pred, pk_rem (by omega) p1 (by omega)]; exact nI_add 1 _
    refine br_f (nI_ne0 (by omega) hj) ⟨nI_ne0 p1 (by omega), ?_⟩
    rw [e, nI_clamp (by omega)]
    refine ⟨vp_in_nI (by omega) (by decide), ?_⟩
    rw [hT _ (by omega)]
    have : sd_tm n r (1 + j % p) = sd_tm n r (j + 1) := by
      unfold sd_tm
      rw [← sd_modE p1 R.2.1 j, Nat.add_comm 1 j]
    rw [this]; exact K
/-! the reference's row -/
theorem sd_wr {post : SY → Prop} {n r p : Nat} (hn : n ≤ 120) (hr : r ≤ 10) (R : sd_Row n r p)
    (K : ∀ T, (∀ l, l < 300 → T l = nI (sd_tm n r l)) → post (nI n, T)) :
    ∀ (d i f : Nat) (T : Nat → Int32), i + d = 300 → d < f → (∀ l, l < i → T l = nI (sd_tm n r l)) → wY_write_15 post (nI r) (nI n) f (nI (sd_st n r i).1) (nI (sd_st n r i).2) (nI i) T := by
  intro d
  induction d with
  | zero =>
    intro i f T e hf hT
    obtain ⟨f, rfl⟩ : ∃ g, f = g + 1 := ⟨f - 1, by omega⟩
    have : i = 300 := by omega
    subst this
    exact br_t (show (300 : Int32) ≤ nI 300 by decide) (K T hT)
  | succ d ih =>
    intro i f T e hf hT
    obtain ⟨f, rfl⟩ : ∃ g, f = g + 1 := ⟨f - 1, by omega⟩
    obtain ⟨s1, s2, s3, s4⟩ := sd_step hn hr R i
    have i64 : ¬ (300 : Int32) ≤ nI i := nI_ge (b := 300) (by omega) (by decide)
    have ci : (nI i).toNatClampNeg = i := nI_clamp (by omega)
    refine br_f i64 (br_f s1 ⟨s1, nm_r s2 ⟨vp_in_nI (by omega) (by decide), nm_e (nm_r s3 ⟨s1, nm_r s4 (nm_r (nI_1 i) (ih (i + 1) f _ (by omega) (by omega) ?_))⟩)⟩⟩)
    intro l hl
    rw [ci]
    by_cases c : l = i
    · rw [c, pk_us]
    · rw [pk_un c]; exact hT l (by omega)
theorem sd_write {post : SY → Prop} {n : Nat} (H : sd_N n) {T : Nat → Int32}
    (K : ∀ T, (∀ l, l < 300 → T l = nI (sd_tm n (sd_r n) l)) → post (nI n, T)) : wpY_write post (nI n, T) := by
  have R := sd_NR H
  obtain ⟨r1, r2, r3, r4⟩ := sd_r_spec H.1 H.2.1
  have h120 := H.2.1
  refine sd_yr (post := fun r_1 => ∃ n15 : Nat, wY_write_15 post r_1 (nI n) n15 0 1 0 T) (by omega) ?_
  intro r a b
  rw [sd_ru a b r1 r2]
  exact ⟨301, sd_wr h120 r4 R K 300 0 301 T (by omega) (by omega) (fun l hl => absurd hl (Nat.not_lt_zero l))⟩
theorem sd_rep_loop {post : Int32 → Prop} {n r p : Nat} (R : sd_Row n r p) {T : Nat → Int32} (hT : ∀ l, l < 300 → T l = nI (sd_tm n r l)) {fn : Int32} {q : Nat}
    (A : (∀ i, 1 ≤ i → i + q < 300 → sd_tm n r i = sd_tm n r (i + q)) → post 1)
    (B : (∃ i, 1 ≤ i ∧ i + q < 300 ∧ sd_tm n r i ≠ sd_tm n r (i + q)) → post 0) :
    ∀ (d i f : Nat), 1 ≤ i → i + q + d = 300 → d < f → (∀ l, 1 ≤ l → l < i → sd_tm n r l = sd_tm n r (l + q)) → wY_repeats_2 post (nI q) fn T f (nI i) := by
  intro d
  induction d with
  | zero =>
    intro i f h1 e hf h
    obtain ⟨f, rfl⟩ : ∃ g, f = g + 1 := ⟨f - 1, by omega⟩
    refine br_t ?_ (A (fun l a b => h l a (by omega)))
    rw [nI_add, show i + q = 300 from by omega]; decide
  | succ d ih =>
    intro i f h1 e hf h
    obtain ⟨f, rfl⟩ : ∃ g, f = g + 1 := ⟨f - 1, by omega⟩
    have tb : ∀ l, sd_tm n r l < 2 ^ 31 := fun l => Nat.lt_of_le_of_lt (R.2.2.2.1 l).2.2.2.2.2.2 (by decide)
    have c : (T (nI i).toNatClampNeg = T (nI i + nI q).toNatClampNeg) ↔ sd_tm n r i = sd_tm n r (i + q) := by
      rw [nI_add, nI_clamp (by omega), nI_clamp (by omega), hT i (by omega), hT (i + q) (by omega)]
      exact nI_eq (tb _) (tb _)
    refine br_f (by rw [nI_add]; exact nI_ge (b := 300) (by omega) (by decide)) ⟨vp_in_nI (by omega) (by decide), by rw [nI_add]; exact vp_in_nI (by omega) (by decide), ?_⟩
    by_cases h2 : sd_tm n r i = sd_tm n r (i + q)
    · refine br_t (c.mpr h2) (nm_r (nI_1 i) (ih (i + 1) f (by omega) (by omega) (by omega) ?_))
      intro l a b
      by_cases z : l = i
      · rw [z]; exact h2
      · exact h l a (by omega)
    · exact br_f (fun z => h2 (c.mp z)) (B ⟨i, h1, by omega, h2⟩)
theorem sd_per_loop {post : Int32 → SY → Prop} {n r p : Nat} (R : sd_Row n r p) {T : Nat → Int32} (hT : ∀ l, l < 300 → T l = nI (sd_tm n r l)) {fn : Int32}
    (K : post (nI p) (fn, T)) : ∀ (d q f : Nat), 1 ≤ q → q + d = p → d < f → wY_period_6 post fn T f (nI q) := by
  have p16 := R.1.2
  intro d
  induction d with
  | zero =>
    intro q f h1 e hf
    obtain ⟨f, rfl⟩ : ∃ g, f = g + 1 := ⟨f - 1, by omega⟩
    have eq : q = p := by omega
    subst eq
    refine br_f (nI_ge (b := 150) (by omega) (by decide)) ⟨300, ?_⟩
    refine sd_rep_loop R hT ?_ ?_ (300 - (1 + q)) 1 300 (by omega) (by omega) (by omega) (fun l a b => by omega)
    · intro _
      exact br_f (by decide) K
    · intro ⟨i, a, b, c⟩
      refine absurd ?_ c
      unfold sd_tm
      rw [R.2.2.2.2.1 i a]
  | succ d ih =>
    intro q f h1 e hf
    obtain ⟨f, rfl⟩ : ∃ g, f = g + 1 := ⟨f - 1, by omega⟩
    refine br_f (nI_ge (b := 150) (by omega) (by decide)) ⟨300, ?_⟩
    refine sd_rep_loop R hT ?_ ?_ (300 - (1 + q)) 1 300 (by omega) (by omega) (by omega) (fun l a b => by omega)
    · intro h
      obtain ⟨i, a, b, c⟩ := R.2.2.2.2.2 q h1 (by omega)
      exact absurd (h i a (by omega)) c
    · intro _
      exact br_t rfl (nm_r (nI_1 q) (ih (q + 1) f (by omega) (by omega) (by omega)))
end
section
/-! the list of ys: in order, each once -/
def sd_En (c : Nat) (S : Nat → Prop) (ys : Nat → Int32) : Prop := ∃ g : Nat → Nat, (∀ i, i < c → ys i = nI (g i) ∧ g i ≤ 3000) ∧ (∀ i j, i < j → j < c → g i < g j) ∧ (∀ z, S z ↔ ∃ i, i < c ∧ g i = z)
theorem sd_EnC {c : Nat} {S S' : Nat → Prop} {ys : Nat → Int32} (h : ∀ z, S z ↔ S' z) (E : sd_En c S ys) : sd_En c S' ys := by
  obtain ⟨g, a, b, d⟩ := E
  exact ⟨g, a, b, fun z => (h z).symm.trans (d z)⟩
def sd_ins (g : Nat → Nat) (p y : Nat) : Nat → Nat := fun l => if l < p then g l else if l = p then y else g (l - 1)
theorem sd_insL {g : Nat → Nat} {p y l : Nat} (h : l < p) : sd_ins g p y l = g l := if_pos h
theorem sd_insE {g : Nat → Nat} {p y : Nat} : sd_ins g p y p = y := by
  unfold sd_ins; rw [if_neg (Nat.lt_irrefl p), if_pos rfl]
theorem sd_insG {g : Nat → Nat} {p y l : Nat} (h : p < l) : sd_ins g p y l = g (l - 1) := by
  unfold sd_ins; rw [if_neg (by omega), if_neg (by omega)]
theorem sd_insM {g : Nat → Nat} {p y c : Nat} (hp : p ≤ c) (g2 : ∀ i j, i < j → j < c → g i < g j) (a : ∀ i, i < p → g i < y) (b : ∀ i, p ≤ i → i < c → y < g i) : ∀ i j, i < j → j < c + 1 → sd_ins g p y i < sd_ins g p y j := by
  intro i j hij hj
  rcases Nat.lt_trichotomy j p with x | x | x
  · rw [sd_insL (show i < p by omega), sd_insL x]; exact g2 i j hij (by omega)
  · subst x
    rw [sd_insL hij, sd_insE]; exact a i hij
  · rw [sd_insG x]
    rcases Nat.lt_trichotomy i p with w | w | w
    · rw [sd_insL w]; exact Nat.lt_trans (a i w) (b (j - 1) (by omega) (by omega))
    · subst w
      rw [sd_insE]; exact b (j - 1) (by omega) (by omega)
    · rw [sd_insG w]; exact g2 (i - 1) (j - 1) (by omega) (by omega)
theorem sd_insS {g : Nat → Nat} {p y c : Nat} (hp : p ≤ c) (z : Nat) : ((∃ i, i < c ∧ g i = z) ∨ z = y) ↔ ∃ i, i < c + 1 ∧ sd_ins g p y i = z := by
  constructor
  · intro h
    rcases h with ⟨i, hi, e⟩ | h
    · by_cases x : i < p
      · exact ⟨i, by omega, by rw [sd_insL x]; exact e⟩
      · exact ⟨i + 1, by omega, by rw [sd_insG (by omega)]; exact e⟩
    · exact ⟨p, by omega, by rw [sd_insE]; exact h.symm⟩
  · intro ⟨i, hi, e⟩
    rcases Nat.lt_trichotomy i p with w | w | w
    · rw [sd_insL w] at e; exact Or.inl ⟨i, by omega, e⟩
    · subst w
      rw [sd_insE] at e; exact Or.inr e.symm
    · rw [sd_insG w] at e; exact Or.inl ⟨i - 1, by omega, e⟩
/-- the shift -/
theorem sd_a54 {post : SX → Prop} {fn fp : Int32} {T ys : Nat → Int32} {c y p : Nat} (hp : p ≤ c) (hc : c < 64)
    (K : ∀ A, (∀ l, l < p → A l = ys l) → A p = nI y → (∀ l, p < l → l ≤ c → A l = ys (l - 1)) → post (fn, fp, nI (c + 1), T, A)) :
    ∀ (d q f : Nat) (A : Nat → Int32), p + d = q → q ≤ c → d < f → (∀ l, l < q → A l = ys l) → (∀ l, q < l → l ≤ c → A l = ys (l - 1)) → wX_addY_54 post (nI y) (nI p) fn fp (nI c) f (nI q) T A := by
  intro d
  induction d with
  | zero =>
    intro q f A e hq hf a b
    obtain ⟨f, rfl⟩ : ∃ g, f = g + 1 := ⟨f - 1, by omega⟩
    have : q = p := by omega
    subst this
    have cq : (nI q).toNatClampNeg = q := nI_clamp (by omega)
    refine br_t (nI_le (Nat.le_refl _) (by omega)) ⟨vp_in_nI (by omega) (by decide), nm_e (nm_r (nI_1 c) ?_)⟩
    rw [cq]
    refine K _ ?_ pk_us ?_
    · intro l hl; rw [pk_un (by omega)]; exact a l hl
    · intro l h1 h2; rw [pk_un (by omega)]; exact b l h1 h2
  | succ d ih =>
    intro q f A e hq hf a b
    obtain ⟨f, rfl⟩ : ∃ g, f = g + 1 := ⟨f - 1, by omega⟩
    obtain ⟨q, rfl⟩ : ∃ g, q = g + 1 := ⟨q - 1, by omega⟩
    have c1 : (nI (q + 1)).toNatClampNeg = q + 1 := nI_clamp (by omega)
    have c2 : (nI (q + 1) - 1).toNatClampNeg = q := by rw [nI_pred]; exact nI_clamp (by omega)
    refine br_f (nI_ge (by omega) (by omega)) ⟨by rw [nI_pred]; exact vp_in_nI (by omega) (by decide), vp_in_nI (by omega) (by decide), nm_e (nm_r (pk_m1 q) ?_)⟩
    rw [c1, c2]
    refine ih q f _ (by omega) (by omega) (by omega) ?_ ?_
    · intro l hl; rw [pk_un (by omega)]; exact a l (by omega)
    · intro l h1 h2
      by_cases x : l = q + 1
      · subst x; rw [pk_us]; exact a q (by omega)
      · rw [pk_un x]; exact b l (by omega) h2
theorem sd_addY {post : SX → Prop} {fn fp : Int32} {T ys : Nat → Int32} {c y : Nat} {S : Nat → Prop} (hc : c < 64) (hy : y ≤ 3000) (E : sd_En c S ys)
    (K : ∀ c' ys', c' ≤ c + 1 → sd_En c' (fun z => S z ∨ z = y) ys' → post (fn, fp, nI c', T, ys')) : wpX_addY post (fn, fp, nI c, T, ys) (nI y) := by
  obtain ⟨g, g1, g2, g3⟩ := E
  have I : ∀ p, p ≤ c → (∀ i, i < p → g i < y) → (∀ i, p ≤ i → i < c → y < g i) → ∃ n54 : Nat, wX_addY_54 post (nI y) (nI p) fn fp (nI c) n54 (nI c) T ys := by
    intro p hp a b
    refine ⟨c - p + 1, sd_a54 hp hc ?_ (c - p) c (c - p + 1) ys (by omega) (Nat.le_refl _) (by omega) (fun l _ => rfl) (fun l h1 h2 => by omega)⟩
    intro A A1 A2 A3
    refine K (c + 1) A (Nat.le_refl _) ⟨sd_ins g p y, ?_, sd_insM hp g2 a b, fun z => ?_⟩
    · intro i hi
      rcases Nat.lt_trichotomy i p with w | w | w
      · rw [sd_insL w, A1 i w]; exact g1 i (by omega)
      · subst w
        rw [sd_insE]; exact ⟨A2, hy⟩
      · rw [sd_insG w, A3 i w (by omega)]; exact g1 (i - 1) (by omega)
    · rw [← sd_insS hp z, ← g3 z]
  have L : ∀ (j f p : Nat), j ≤ p → p ≤ c → j < f → (∀ i, j ≤ i → i < p → g i < y) → (∀ i, p ≤ i → i < c → y < g i) → wX_addY_12 post (nI y) fn fp (nI c) T ys f (nI p) (nI j - 1) := by
    intro j
    induction j with
    | zero =>
      intro f p _ hp hf a b
      obtain ⟨f, rfl⟩ : ∃ g, f = g + 1 := ⟨f - 1, by omega⟩
      exact br_t (show nI 0 - 1 < 0 by decide) (I p hp (fun i hi => a i (Nat.zero_le _) hi) b)
    | succ j ih =>
      intro f p hj hp hf a b
      obtain ⟨f, rfl⟩ : ∃ g, f = g + 1 := ⟨f - 1, by omega⟩
      have cj : (nI j).toNatClampNeg = j := nI_clamp (by omega)
      obtain ⟨e1, e2⟩ := g1 j (by omega)
      have em : nI j + (-1) = nI j - 1 := (Int32.sub_eq_add_neg _ _).symm
      rw [nI_pred]
      have aj : ys (nI j).toNatClampNeg = nI (g j) := by rw [cj]; exact e1
      refine br_f (nI_pos (by omega)) ⟨vp_in_nI (by omega) (by decide), ?_⟩
      by_cases h : g j = y
      · refine br_t (by rw [aj, h]) (K c ys (by omega) ⟨g, g1, g2, fun z => ?_⟩)
        constructor
        · intro w
          rcases w with w | w
          · exact (g3 z).mp w
          · exact ⟨j, by omega, by rw [w]; exact h⟩
        · intro w; exact Or.inl ((g3 z).mpr w)
      · refine br_f (fun w => h ((nI_eq (by omega) (by omega)).mp (aj.symm.trans w))) ⟨vp_in_nI (by omega) (by decide), ?_⟩
        by_cases h2 : g j ≤ y
        · refine br_t (by rw [aj]; exact nI_le h2 (by omega)) (nm_r em (ih f p (by omega) hp (by omega) ?_ b))
          intro i x1 x2
          by_cases x : i = j
          · subst x; omega
          · exact a i (by omega) x2
        · refine br_f (by rw [aj]; exact nI_ge (by omega) (by omega)) (nm_r em (ih f j (Nat.le_refl _) (by omega) (by omega) (fun i x1 x2 => by omega) ?_))
          intro i x1 x2
          by_cases x : i = j
          · subst x; omega
          · have := g2 j i (by omega) x2; omega
  exact nm_e ⟨c + 1, L c (c + 1) c (Nat.le_refl _) (Nat.le_refl _) (by omega) (fun i x1 x2 => by omega) (fun i x1 x2 => by omega)⟩
/-! the fractions -/
theorem sd_hitI {a b : Nat} {k : Int32} (ha : a < 2 ^ 62) (hb : b < 2 ^ 62) : lN a - lN b = k.toInt64 ↔ (a : Int) - (b : Int) = k.toInt := by
  rw [← Int64.toInt_inj, Int64.toInt_sub, pk_lT (by omega), pk_lT (by omega), Int.bmod_eq_of_le (by omega) (by omega), Int32.toInt_toInt64]
def sd_hit (n r : Nat) (k : Int) (f i z : Nat) : Prop := ((sd_x n r i * sd_x n r i : Nat) : Int) - ((n * sd_y n r i * sd_y n r i : Nat) : Int) = k ∧ z = sd_y n r i * f ∧ z ≤ 3000
theorem sd_af {post : SX → Prop} {n r p f : Nat} {kk : Int32} (hn : n ≤ 120) (R : sd_Row n r p) (C : sd_Cv n r) (f1 : 1 ≤ f) (f3 : f ≤ 3) {T : Nat → Int32} (hT : ∀ l, l ≤ p → T l = nI (sd_tm n r l)) :
    ∀ (d i F c : Nat) (S : Nat → Prop) (ys : Nat → Int32), i + d = 15 → d < F → c + d ≤ 63 → sd_En c S ys → sd_y n r i ≤ 100000 →
    (∀ c' ys', c' ≤ c + d → sd_En c' (fun z => S z ∨ ∃ j, i ≤ j ∧ j < 15 ∧ sd_hit n r kk.toInt f j z) ys' → post (nI n, nI p, nI c', T, ys')) →
    wX_addFractions_14 post kk (nI f) F (lN (sd_cv n r i).1.1) (lN (sd_cv n r i).1.2) (lN (sd_cv n r i).2.1) (lN (sd_cv n r i).2.2) (nI i) (nI n) (nI p) (nI c) T ys := by
  intro d
  induction d with
  | zero =>
    intro i F c S ys e hF hc E hy K
    obtain ⟨F, rfl⟩ : ∃ g, F = g + 1 := ⟨F - 1, by omega⟩
    have : i = 15 := by omega
    subst this
    have y15 := C.1
    have m := Nat.mul_le_mul (Nat.le_refl (sd_y n r 15)) f1
    have m3 := Nat.mul_le_mul (Nat.le_refl (sd_y n r 15)) f3
    have b : (3000 : Int64) < lN (sd_cv n r 15).1.2 * (nI f).toInt64 := by
      rw [nI_l (by omega), lN_mul]
      exact (lN_lt (a := 3000) (by decide) (show sd_y n r 15 * f < 2 ^ 31 by omega)).mpr (show 3000 < sd_y n r 15 * f by omega)
    refine br_f (by decide) (br_t b (K c ys (by omega) (sd_EnC (fun z => ⟨Or.inl, fun h => ?_⟩) E)))
    rcases h with h | ⟨j, h1, h2, _⟩
    · exact h
    · omega
  | succ d ih =>
    intro i F c S ys e hF hc E hy K
    obtain ⟨F, rfl⟩ : ∃ g, F = g + 1 := ⟨F - 1, by omega⟩
    have m := Nat.mul_le_mul (Nat.le_refl (sd_y n r i)) f1
    have m3 := Nat.mul_le_mul (Nat.le_refl (sd_y n r i)) f3
    have b : (3000 : Int64) < lN (sd_cv n r i).1.2 * (nI f).toInt64 ↔ 3000 < sd_y n r i * f := by
      rw [nI_l (by omega), lN_mul]
      exact lN_lt (a := 3000) (by decide) (show sd_y n r i * f < 2 ^ 31 by omega)
    refine br_f (nI_ge (b := 40) (by omega) (by decide)) ?_
    by_cases h : 3000 < sd_y n r i * f
    · refine br_t (b.mpr h) (K c ys (by omega) (sd_EnC (fun z => ⟨Or.inl, fun w => ?_⟩) E))
      rcases w with w | ⟨j, h1, h2, h3, h4, h5⟩
      · exact w
      · have := Nat.mul_le_mul (sd_ymono R i j h1) (Nat.le_refl f); omega
    · have hy3 : sd_y n r i ≤ 3000 := by omega
      obtain ⟨hx, hy'⟩ := C.2 i (by omega) hy3
      refine br_f (fun w => h (b.mp w)) ?_
      have q1 : sd_x n r i * sd_x n r i < 2 ^ 62 := Nat.lt_of_le_of_lt (Nat.mul_le_mul hx hx) (by decide)
      have q2 : n * sd_y n r i * sd_y n r i < 2 ^ 62 := Nat.lt_of_le_of_lt (Nat.mul_le_mul (Nat.mul_le_mul hn hy3) hy3) (by decide)
      have hh : (lN (sd_cv n r i).1.1 * lN (sd_cv n r i).1.1 - ((nI n).toInt64 * lN (sd_cv n r i).1.2) * lN (sd_cv n r i).1.2 = kk.toInt64) ↔ ((sd_x n r i * sd_x n r i : Nat) : Int) - ((n * sd_y n r i * sd_y n r i : Nat) : Int) = kk.toInt := by
        rw [nI_l (show n < 2 ^ 31 by omega), lN_mul, lN_mul, lN_mul]
        exact sd_hitI q1 q2
      have tb : sd_tm n r i < 2 ^ 31 := Nat.lt_of_le_of_lt (R.2.2.2.1 i).2.2.2.2.2.2 (by decide)
      have J : ∀ (c' : Nat) (S' : Nat → Prop) (ys' : Nat → Int32), c' + d ≤ 63 → sd_En c' S' ys' →
          (∀ c'' ys'', c'' ≤ c' + d → sd_En c'' (fun z => S' z ∨ ∃ j, i + 1 ≤ j ∧ j < 15 ∧ sd_hit n r kk.toInt f j z) ys'' → post (nI n, nI p, nI c'', T, ys'')) →
          wX_addFractions_63 post (wX_addFractions_14 post kk (nI f) F) kk (nI f) (lN (sd_cv n r i).1.1) (lN (sd_cv n r i).1.2) (lN (sd_cv n r i).2.1) (lN (sd_cv n r i).2.2) (nI i) (nI n) (nI p) (nI c') T ys' := by
        intro c' S' ys' hc' E' K'
        unfold wX_addFractions_63
        refine sd_termAt R (by omega) hT ?_
        have e1 : ∀ x bx, (nI (sd_tm n r i)).toInt64 * lN x + lN bx = lN (sd_tm n r i * x + bx) := by
          intro x bx; rw [nI_l tb, lN_mul, lN_add]
        exact nm_r (e1 _ _) (nm_r (e1 _ _) (nm_r (nI_1 i) (ih (i + 1) F c' S' ys' (by omega) (by omega) hc' E' hy' K')))
      by_cases w : ((sd_x n r i * sd_x n r i : Nat) : Int) - ((n * sd_y n r i * sd_y n r i : Nat) : Int) = kk.toInt
      · refine br_t (hh.mpr w) ?_
        have ea : (lN (sd_cv n r i).1.2).toInt32 * nI f = nI (sd_y n r i * f) := by rw [lN_i, pk_mul]; rfl
        rw [ea]
        refine sd_addY (by omega) (by omega) E ?_
        intro c' ys' h1 E'
        refine J c' _ ys' (by omega) E' ?_
        intro c'' ys'' h2 E''
        refine K c'' ys'' (by omega) (sd_EnC (fun z => ?_) E'')
        constructor
        · intro v
          rcases v with (v | v) | ⟨j, v1, v2, v3⟩
          · exact Or.inl v
          · exact Or.inr ⟨i, Nat.le_refl _, by omega, w, v, by omega⟩
          · exact Or.inr ⟨j, by omega, v2, v3⟩
        · intro v
          rcases v with v | ⟨j, v1, v2, v3⟩
          · exact Or.inl (Or.inl v)
          · by_cases x : j = i
            · subst x; exact Or.inl (Or.inr v3.2.1)
            · exact Or.inr ⟨j, by omega, v2, v3⟩
      · refine br_f (fun v => w (hh.mp v)) (J c S ys (by omega) E ?_)
        intro c'' ys'' h2 E''
        refine K c'' ys'' (by omega) (sd_EnC (fun z => ?_) E'')
        constructor
        · intro v
          rcases v with v | ⟨j, v1, v2, v3⟩
          · exact Or.inl v
          · exact Or.inr ⟨j, by omega, v2, v3⟩
        · intro v
          rcases v with v | ⟨j, v1, v2, v3⟩
          · exact Or.inl v
          · by_cases x : j = i
            · subst x; exact absurd v3.1 w
            · exact Or.inr ⟨j, by omega, v2, v3⟩
end
section
/-! k between -9 and 9 -/
theorem sd_kOf {k : Int32} (h1 : -9 ≤ k.toInt) (h2 : k.toInt ≤ 9) : ∃ j, j < 19 ∧ k = nI j - nI 9 := by
  refine ⟨(k.toInt + 9).toNat, by omega, Int32.toInt_inj.mp ?_⟩
  rw [pk_sub_toInt (by omega) (by decide)]
  omega
def sd_dv (k : Int32) (f : Nat) : Prop := ¬ nI f * nI f = 0 ∧ ((k - k / (nI f * nI f) * (nI f * nI f) = 0 ∧ (k / (nI f * nI f)).toInt * ((f * f : Nat) : Int) = k.toInt) ∨ (¬ k - k / (nI f * nI f) * (nI f * nI f) = 0 ∧ k.toInt % ((f * f : Nat) : Int) ≠ 0))
theorem sd_kdiv {k : Int32} (h1 : -9 ≤ k.toInt) (h2 : k.toInt ≤ 9) {f : Nat} (f1 : 1 ≤ f) (f3 : f ≤ 3) : sd_dv k f := by
  have D : ∀ f, f < 4 → ∀ j, j < 19 → 1 ≤ f → (¬ nI f * nI f = 0 ∧ (((nI j - nI 9) - (nI j - nI 9) / (nI f * nI f) * (nI f * nI f) = 0 ∧ ((nI j - nI 9) / (nI f * nI f)).toInt * ((f * f : Nat) : Int) = (nI j - nI 9).toInt) ∨ (¬ (nI j - nI 9) - (nI j - nI 9) / (nI f * nI f) * (nI f * nI f) = 0 ∧ (nI j - nI 9).toInt % ((f * f : Nat) : Int) ≠ 0))) := by decide +kernel
  obtain ⟨j, hj, rfl⟩ := sd_kOf h1 h2
  exact D f (by omega) j hj f1
theorem sd_ksq {k : Int32} (h1 : -9 ≤ k.toInt) (h2 : k.toInt ≤ 9) : (k * k).toInt = k.toInt * k.toInt := by
  have D : ∀ j, j < 19 → ((nI j - nI 9) * (nI j - nI 9)).toInt = (nI j - nI 9).toInt * (nI j - nI 9).toInt := by decide +kernel
  obtain ⟨j, hj, rfl⟩ := sd_kOf h1 h2
  exact D j hj
theorem sd_alg (n f x y : Nat) : (f * x) * (f * x) = f * f * (x * x) ∧ n * (f * y) * (f * y) = f * f * (n * y * y) := by
  constructor
  · exact Nat.mul_mul_mul_comm f x f x
  · rw [Nat.mul_left_comm n f y, Nat.mul_mul_mul_comm f (n * y) f y]
theorem sd_Pf {n r : Nat} {κ κ' : Int} {f : Nat} (f1 : 1 ≤ f) (f3 : f ≤ 3) (hk : κ' * ((f * f : Nat) : Int) = κ) (z : Nat) : (∃ j, 0 ≤ j ∧ j < 15 ∧ sd_hit n r κ' f j z) ↔ sd_P n r κ f z := by
  have E : ∀ j, (((sd_x n r j * sd_x n r j : Nat) : Int) - ((n * sd_y n r j * sd_y n r j : Nat) : Int) = κ') ↔ ((((f * sd_x n r j) * (f * sd_x n r j) : Nat) : Int) = ((n * (f * sd_y n r j) * (f * sd_y n r j) : Nat) : Int) + κ) := by
    intro j
    rw [(sd_alg n f (sd_x n r j) (sd_y n r j)).1, (sd_alg n f (sd_x n r j) (sd_y n r j)).2]
    generalize sd_x n r j * sd_x n r j = A
    generalize n * sd_y n r j * sd_y n r j = B
    have : f = 1 ∨ f = 2 ∨ f = 3 := by omega
    rcases this with rfl | rfl | rfl <;> omega
  constructor
  · intro ⟨j, _, h1, h2, h3, h4⟩
    exact ⟨j, h1, (E j).mp h2, by rw [h3, Nat.mul_comm], h4⟩
  · intro ⟨j, h1, h2, h3, h4⟩
    exact ⟨j, Nat.zero_le _, h1, (E j).mpr h2, by rw [h3, Nat.mul_comm], h4⟩
theorem sd_Pn {n r : Nat} {κ : Int} {f : Nat} (f1 : 1 ≤ f) (f3 : f ≤ 3) (hk : κ % ((f * f : Nat) : Int) ≠ 0) (z : Nat) : ¬ sd_P n r κ f z := by
  intro ⟨j, h1, h2, _, _⟩
  rw [(sd_alg n f (sd_x n r j) (sd_y n r j)).1, (sd_alg n f (sd_x n r j) (sd_y n r j)).2] at h2
  generalize sd_x n r j * sd_x n r j = A at h2
  generalize n * sd_y n r j * sd_y n r j = B at h2
  have : f = 1 ∨ f = 2 ∨ f = 3 := by omega
  rcases this with rfl | rfl | rfl <;> omega
theorem sd_ls1 {post : SX → Prop} {n r p : Nat} (hn : n ≤ 120) (R : sd_Row n r p) (C : sd_Cv n r) {k : Int32} (k1 : -9 ≤ k.toInt) (k2 : k.toInt ≤ 9) {T : Nat → Int32} (hT : ∀ l, l ≤ p → T l = nI (sd_tm n r l))
    {f F c : Nat} {S : Nat → Prop} {ys : Nat → Int32} (f1 : 1 ≤ f) (f3 : f ≤ 3) (hc : c + 15 ≤ 63) (E : sd_En c S ys)
    (K : ∀ c' ys', c' ≤ c + 15 → sd_En c' (fun z => S z ∨ sd_P n r k.toInt f z) ys' → wX_listSolutions_7 post k F (nI (f + 1)) (nI n) (nI p) (nI c') T ys') :
    wX_listSolutions_7 post k (F + 1) (nI f) (nI n) (nI p) (nI c) T ys := by
  obtain ⟨d0, D⟩ := sd_kdiv k1 k2 f1 f3
  refine br_f (nI_nlt (b := f) (a := 3) (by omega) (by decide)) ⟨d0, ?_⟩
  rcases D with ⟨d1, d2⟩ | ⟨d1, d2⟩
  · refine br_t d1 ⟨d0, 16, ?_⟩
    refine sd_af (post := fun u => match u with | (f_n_7, f_period_8, f_found_9, a_terms_10, a_ys_11) => (∀ x2_12 : Int32, x2_12 = nI f + 1 → (wX_listSolutions_7 post k F x2_12 f_n_7 f_period_8 f_found_9 a_terms_10 a_ys_11))) hn R C f1 f3 hT 15 0 16 c S ys (by omega) (by omega) hc E (show (0 : Nat) ≤ 100000 by omega) ?_
    intro c' ys' h1 E'
    exact nm_r (nI_1 f) (K c' ys' h1 (sd_EnC (fun z => or_congr Iff.rfl (sd_Pf f1 f3 d2 z)) E'))
  · refine br_f d1 (nm_r (nI_1 f) (K c ys (by omega) (sd_EnC (fun z => ⟨Or.inl, fun h => ?_⟩) E)))
    rcases h with h | h
    · exact h
    · exact absurd h (sd_Pn f1 f3 d2 z)
theorem sd_ls {post : SX → Prop} {n : Nat} (H : sd_N n) {k : Int32} (k1 : -9 ≤ k.toInt) (k2 : k.toInt ≤ 9) (k0 : k.toInt ≠ 0) (kn : k.toInt * k.toInt < (n : Int)) {T : Nat → Int32} (hT : ∀ l, l ≤ sd_p n → T l = nI (sd_tm n (sd_r n) l)) {fc : Int32} {ys : Nat → Int32}
    (K : ∀ c ys', c ≤ 45 → sd_En c (fun z => z ≤ 3000 ∧ sd_sol n k.toInt z) ys' → post (nI n, nI (sd_p n), nI c, T, ys')) : wpX_listSolutions post (nI n, nI (sd_p n), fc, T, ys) k := by
  have R := sd_NR H
  have C := sd_NC H
  have h120 := H.2.1
  have E0 : sd_En 0 (fun _ => False) ys := ⟨fun _ => 0, fun i hi => absurd hi (Nat.not_lt_zero i), fun i j _ hj => absurd hj (Nat.not_lt_zero j), fun z => ⟨False.elim, fun ⟨i, hi, _⟩ => absurd hi (Nat.not_lt_zero i)⟩⟩
  refine ⟨4, ?_⟩
  refine sd_ls1 (f := 1) (c := 0) h120 R C k1 k2 hT (by omega) (by omega) (by omega) E0 (fun c1 ys1 hc1 E1 => ?_)
  refine sd_ls1 (f := 2) h120 R C k1 k2 hT (by omega) (by omega) (by omega) E1 (fun c2 ys2 hc2 E2 => ?_)
  refine sd_ls1 (f := 3) h120 R C k1 k2 hT (by omega) (by omega) (by omega) E2 (fun c3 ys3 hc3 E3 => ?_)
  refine br_t (by decide) (K c3 ys3 (by omega) (sd_EnC (fun z => ?_) E3))
  rw [← sd_law H k0 kn z]
  constructor
  · intro h
    rcases h with ((h | h) | h) | h
    · exact h.elim
    · exact Or.inl h
    · exact Or.inr (Or.inl h)
    · exact Or.inr (Or.inr h)
  · intro h
    rcases h with h | h | h
    · exact Or.inl (Or.inl (Or.inr h))
    · exact Or.inl (Or.inr h)
    · exact Or.inr h
/-! the reference's find -/
theorem sd_find {post : Int32 → Prop} {n y : Nat} {k : Int32} {T : Nat → Int32} (hn : n ≤ 120) (hy : y ≤ 3000) (k1 : -9 ≤ k.toInt) (k2 : k.toInt ≤ 9)
    (A : ∀ x : Nat, x < 2 ^ 31 → ((x * x : Nat) : Int) = ((n * y * y : Nat) : Int) + k.toInt → post (nI x)) (B : ¬ sd_sol n k.toInt y → post (-2)) : wpY_find post (nI n, T) k (nI y) := by
  have q : n * y * y ≤ 1080000000 := Nat.le_trans (Nat.mul_le_mul (Nat.mul_le_mul hn hy) hy) (by decide)
  have e : ∀ v : Int32, v = nI n * nI y * nI y + k → v.toInt = ((n * y * y : Nat) : Int) + k.toInt := by
    intro v ev
    rw [ev, pk_mul, pk_mul, Int32.toInt_add, nI_toInt (by omega), Int.bmod_eq_of_le (by omega) (by omega)]
  intro v ev
  have tv := e v ev
  by_cases h : 0 ≤ v
  · refine br_t h ?_
    have h' : ¬ v < 0 := Int32.not_lt.mpr h
    obtain ⟨V, hV, rfl⟩ := nI_of h'
    rw [nI_toInt hV] at tv
    refine sd_yr (post := fun r_3 => (r_3 * r_3 = nI V → post r_3) ∧ (¬ r_3 * r_3 = nI V → post (-2))) (by omega) ?_
    intro r a b
    have rr : r < 2 ^ 31 := by
      rcases Nat.eq_zero_or_pos r with z | z
      · omega
      · have := Nat.le_mul_of_pos_right r z; omega
    have c : nI r * nI r = nI V ↔ r * r = V := by rw [pk_mul]; exact nI_eq (by omega) hV
    by_cases w : r * r = V
    · exact br_t (c.mpr w) (A r rr (by rw [w]; exact tv))
    · refine br_f (fun z => w (c.mp z)) (B ?_)
      intro ⟨x, ex⟩
      have ex : x * x = V := by omega
      have : r = x := sd_ru a b (by omega) (by rw [← ex]; exact Nat.mul_self_lt_mul_self (Nat.lt_succ_self x))
      subst this
      exact w ex
  · refine br_f h (B ?_)
    intro ⟨x, ex⟩
    rw [Int32.le_iff_toInt_le, show (0 : Int32).toInt = 0 from by decide] at h
    omega
end
section
/-! the answers out of the list, on both sides -/
/-- a list in order, g, of c numbers: those that solve it -/
def sd_G (n : Nat) (κ : Int) (c : Nat) (g : Nat → Nat) : Prop := (∀ i j, i < j → j < c → g i < g j) ∧ (∀ z, (z ≤ 3000 ∧ sd_sol n κ z) ↔ ∃ i, i < c ∧ g i = z)
/-- J: how many are at most L -/
def sd_J (c : Nat) (g : Nat → Nat) (L J : Nat) : Prop := J ≤ c ∧ (∀ i, i < J → g i ≤ L) ∧ (∀ i, J ≤ i → i < c → L < g i)
theorem sd_Jx {g : Nat → Nat} {L : Nat} : ∀ c, (∀ i j, i < j → j < c → g i < g j) → ∃ J, sd_J c g L J := by
  intro c
  induction c with
  | zero => intro _; exact ⟨0, Nat.le_refl _, fun i hi => absurd hi (Nat.not_lt_zero i), fun i _ hi => absurd hi (Nat.not_lt_zero i)⟩
  | succ c ih =>
    intro m
    obtain ⟨J, j1, j2, j3⟩ := ih (fun i j a b => m i j a (by omega))
    by_cases h : g c ≤ L
    · refine ⟨c + 1, Nat.le_refl _, ?_, fun i a b => by omega⟩
      intro i hi
      by_cases e : i = c
      · rw [e]; exact h
      · have := m i c (by omega) (by omega); omega
    · refine ⟨J, by omega, j2, ?_⟩
      intro i a b
      by_cases e : i = c
      · rw [e]; omega
      · exact j3 i a (by omega)
def sd_S (g : Nat → Nat) : Nat → Nat
  | 0 => 0
  | j + 1 => sd_S g j + g j
/-- what stands at y: j numbers below it; the next one is y, if y solves it -/
def sd_at2 (c : Nat) (g : Nat → Nat) (y j : Nat) : Prop := j ≤ c ∧ (∀ i, i < j → g i < y) ∧ (∀ i, j ≤ i → i < c → y ≤ g i)
theorem sd_at_y {n : Nat} {κ : Int} {c : Nat} {g : Nat → Nat} (G : sd_G n κ c g) {y j : Nat} (hy : y ≤ 3000) (A : sd_at2 c g y j) (s : sd_sol n κ y) : j < c ∧ g j = y ∧ sd_at2 c g (y + 1) (j + 1) := by
  obtain ⟨a1, a2, a3⟩ := A
  obtain ⟨i, hi, e⟩ := (G.2 y).mp ⟨hy, s⟩
  have ij : j ≤ i := by
    rcases Nat.lt_or_ge i j with h | h
    · have := a2 i h; omega
    · exact h
  have ji : i = j := by
    rcases Nat.lt_or_ge j i with h | h
    · have := G.1 j i h hi
      have := a3 j (Nat.le_refl _) (by omega)
      omega
    · omega
  subst ji
  refine ⟨hi, e, hi, ?_, ?_⟩
  · intro l hl
    by_cases x : l = i
    · subst x; omega
    · have := a2 l (by omega); omega
  · intro l h1 h2
    have := G.1 i l (by omega) h2
    omega
theorem sd_at_n {n : Nat} {κ : Int} {c : Nat} {g : Nat → Nat} (G : sd_G n κ c g) {y j : Nat} (A : sd_at2 c g y j) (s : ¬ sd_sol n κ y) : sd_at2 c g (y + 1) j := by
  obtain ⟨a1, a2, a3⟩ := A
  refine ⟨a1, fun i hi => by have := a2 i hi; omega, ?_⟩
  intro i h1 h2
  have h := a3 i h1 h2
  by_cases x : g i = y
  · exact absurd ((G.2 y).mpr ⟨i, h2, x⟩).2 s
  · omega
theorem sd_at_J {c : Nat} {g : Nat → Nat} {L j J : Nat} (A : sd_at2 c g (L + 1) j) (B : sd_J c g L J) : j = J := by
  obtain ⟨a1, a2, a3⟩ := A
  obtain ⟨b1, b2, b3⟩ := B
  rcases Nat.lt_trichotomy j J with h | h | h
  · have := b2 j h
    have := a3 j (Nat.le_refl _) (by omega)
    omega
  · exact h
  · have := a2 J h
    have := b3 J (Nat.le_refl _) (by omega)
    omega
/-! solutions -/
theorem sd_xsol {post : Int32 → SX → Prop} {L c J : Nat} {g : Nat → Nat} {fn fp : Int32} {T ys : Nat → Int32} (hL : L ≤ 3000) (hc : c < 64) (hg : ∀ i, i < c → ys i = nI (g i) ∧ g i ≤ 3000) (B : sd_J c g L J)
    (K : post (nI J) (fn, fp, nI c, T, ys)) : ∀ (d i f s : Nat), i + d = c → d < f → ((i ≤ J ∧ s = i) ∨ (J ≤ i ∧ s = J)) → wX_solutions_31 post (nI L) fn fp (nI c) T ys f (nI s) (nI i) := by
  obtain ⟨b1, b2, b3⟩ := B
  intro d
  induction d with
  | zero =>
    intro i f s e hf h
    obtain ⟨f, rfl⟩ : ∃ g, f = g + 1 := ⟨f - 1, by omega⟩
    have : s = J := by omega
    subst this
    exact br_t (nI_le (by omega) (by omega)) K
  | succ d ih =>
    intro i f s e hf h
    obtain ⟨f, rfl⟩ : ∃ g, f = g + 1 := ⟨f - 1, by omega⟩
    obtain ⟨e1, e2⟩ := hg i (by omega)
    have aj : ys (nI i).toNatClampNeg = nI (g i) := by rw [nI_clamp (by omega)]; exact e1
    refine br_f (nI_ge (by omega) (by omega)) ⟨vp_in_nI (by omega) (by decide), ?_⟩
    by_cases x : i < J
    · have := b2 i x
      refine br_f (by rw [aj]; exact nI_nlt this (by omega)) (nm_r (nI_1 s) (nm_r (nI_1 i) (ih (i + 1) f (s + 1) (by omega) (by omega) ?_)))
      omega
    · have := b3 i (by omega) (by omega)
      refine br_t (by rw [aj]; exact nI_lt this (by omega)) (nm_r (Int32.add_zero _) (nm_r (nI_1 i) (ih (i + 1) f s (by omega) (by omega) ?_)))
      omega
theorem sd_ysol {post : Int32 → Prop} {n L c J : Nat} {k : Int32} {g : Nat → Nat} {T : Nat → Int32} (hn : n ≤ 120) (k1 : -9 ≤ k.toInt) (k2 : k.toInt ≤ 9) (hL : L ≤ 3000) (G : sd_G n k.toInt c g) (B : sd_J c g L J)
    (K : post (nI J)) : ∀ (d y f j : Nat), y + d = L + 1 → d < f → sd_at2 c g y j → wY_solutions_16 post k (nI L) (nI n) T f (nI j) (nI y) := by
  intro d
  induction d with
  | zero =>
    intro y f j e hf A
    obtain ⟨f, rfl⟩ : ∃ g, f = g + 1 := ⟨f - 1, by omega⟩
    have : y = L + 1 := by omega
    subst this
    rw [sd_at_J A B]
    exact br_t (nI_lt (by omega) (by omega)) K
  | succ d ih =>
    intro y f j e hf A
    obtain ⟨f, rfl⟩ : ∃ g, f = g + 1 := ⟨f - 1, by omega⟩
    refine br_f (nI_nlt (by omega) (by omega)) ?_
    refine sd_find hn (by omega) k1 k2 (fun x hx ex => ?_) (fun s => ?_)
    · exact br_f (nI_pos hx) (nm_r (nI_1 j) (nm_r (nI_1 y) (ih (y + 1) f (j + 1) (by omega) (by omega) (sd_at_y G (by omega) A ⟨x, ex⟩).2.2)))
    · exact br_t (by decide) (nm_r (nI_1 y) (ih (y + 1) f j (by omega) (by omega) (sd_at_n G A s)))
/-! sum -/
theorem sd_xsum {post : Int32 → SX → Prop} {L c J : Nat} {g : Nat → Nat} {fn fp : Int32} {T ys : Nat → Int32} (hL : L ≤ 3000) (hc : c < 64) (hg : ∀ i, i < c → ys i = nI (g i) ∧ g i ≤ 3000) (B : sd_J c g L J)
    (K : post (nI (sd_S g J)) (fn, fp, nI c, T, ys)) : ∀ (d i f s : Nat), i + d = c → d < f → ((i ≤ J ∧ s = i) ∨ (J ≤ i ∧ s = J)) → wX_sum_31 post (nI L) fn fp (nI c) T ys f (nI (sd_S g s)) (nI i) := by
  obtain ⟨b1, b2, b3⟩ := B
  intro d
  induction d with
  | zero =>
    intro i f s e hf h
    obtain ⟨f, rfl⟩ : ∃ g, f = g + 1 := ⟨f - 1, by omega⟩
    have : s = J := by omega
    subst this
    exact br_t (nI_le (by omega) (by omega)) K
  | succ d ih =>
    intro i f s e hf h
    obtain ⟨f, rfl⟩ : ∃ g, f = g + 1 := ⟨f - 1, by omega⟩
    obtain ⟨e1, e2⟩ := hg i (by omega)
    have aj : ys (nI i).toNatClampNeg = nI (g i) := by rw [nI_clamp (by omega)]; exact e1
    refine br_f (nI_ge (by omega) (by omega)) ⟨vp_in_nI (by omega) (by decide), ?_⟩
    by_cases x : i < J
    · have := b2 i x
      have es : s = i := by omega
      subst es
      have ea : nI (sd_S g s) + ys (nI s).toNatClampNeg = nI (sd_S g (s + 1)) := by rw [aj, nI_add]; rfl
      refine br_f (by rw [aj]; exact nI_nlt this (by omega)) ⟨vp_in_nI (by omega) (by decide), nm_r ea (nm_r (nI_1 s) (ih (s + 1) f (s + 1) (by omega) (by omega) ?_))⟩
      omega
    · have := b3 i (by omega) (by omega)
      refine br_t (by rw [aj]; exact nI_lt this (by omega)) (nm_r (Int32.add_zero _) (nm_r (nI_1 i) (ih (i + 1) f s (by omega) (by omega) ?_)))
      omega
theorem sd_ysum {post : Int32 → Prop} {n L c J : Nat} {k : Int32} {g : Nat → Nat} {T : Nat → Int32} (hn : n ≤ 120) (k1 : -9 ≤ k.toInt) (k2 : k.toInt ≤ 9) (hL : L ≤ 3000) (G : sd_G n k.toInt c g) (B : sd_J c g L J)
    (K : post (nI (sd_S g J))) : ∀ (d y f j : Nat), y + d = L + 1 → d < f → sd_at2 c g y j → wY_sum_16 post k (nI L) (nI n) T f (nI (sd_S g j)) (nI y) := by
  intro d
  induction d with
  | zero =>
    intro y f j e hf A
    obtain ⟨f, rfl⟩ : ∃ g, f = g + 1 := ⟨f - 1, by omega⟩
    have : y = L + 1 := by omega
    subst this
    rw [sd_at_J A B]
    exact br_t (nI_lt (by omega) (by omega)) K
  | succ d ih =>
    intro y f j e hf A
    obtain ⟨f, rfl⟩ : ∃ g, f = g + 1 := ⟨f - 1, by omega⟩
    refine br_f (nI_nlt (by omega) (by omega)) ?_
    refine sd_find hn (by omega) k1 k2 (fun x hx ex => ?_) (fun s => ?_)
    · obtain ⟨q1, q2, q3⟩ := sd_at_y G (by omega) A ⟨x, ex⟩
      have ea : nI (sd_S g j) + nI y = nI (sd_S g (j + 1)) := by rw [nI_add, ← q2]; rfl
      exact br_f (nI_pos hx) (nm_r ea (nm_r (nI_1 y) (ih (y + 1) f (j + 1) (by omega) (by omega) q3)))
    · exact br_t (by decide) (nm_r (nI_1 y) (ih (y + 1) f j (by omega) (by omega) (sd_at_n G A s)))
/-! next: the first that is not below L -/
theorem sd_xnext {post : Int32 → SX → Prop} {L c : Nat} {g : Nat → Nat} {fn fp : Int32} {T ys : Nat → Int32} (hL : L ≤ 3000) (hc : c < 64) (hg : ∀ i, i < c → ys i = nI (g i) ∧ g i ≤ 3000)
    (K0 : (∀ i, i < c → g i < L) → post (-2) (fn, fp, nI c, T, ys)) (K1 : ∀ j, j < c → (∀ i, i < j → g i < L) → L ≤ g j → post (nI (g j)) (fn, fp, nI c, T, ys)) :
    ∀ (d i f : Nat), i + d = c → d < f → (∀ l, l < i → g l < L) → wX_next_28 post (nI L) fn fp (nI c) T ys f (nI i) := by
  intro d
  induction d with
  | zero =>
    intro i f e hf h
    obtain ⟨f, rfl⟩ : ∃ g, f = g + 1 := ⟨f - 1, by omega⟩
    exact br_t (nI_le (by omega) (by omega)) (K0 (fun l hl => h l (by omega)))
  | succ d ih =>
    intro i f e hf h
    obtain ⟨f, rfl⟩ : ∃ g, f = g + 1 := ⟨f - 1, by omega⟩
    obtain ⟨e1, e2⟩ := hg i (by omega)
    have aj : ys (nI i).toNatClampNeg = nI (g i) := by rw [nI_clamp (by omega)]; exact e1
    refine br_f (nI_ge (by omega) (by omega)) ⟨vp_in_nI (by omega) (by decide), ?_⟩
    by_cases x : g i < L
    · refine br_t (by rw [aj]; exact nI_lt x (by omega)) (nm_r (nI_1 i) (ih (i + 1) f (by omega) (by omega) ?_))
      intro l hl
      by_cases z : l = i
      · rw [z]; exact x
      · exact h l (by omega)
    · refine br_f (by rw [aj]; exact nI_nlt (by omega) (by omega)) ⟨vp_in_nI (by omega) (by decide), ?_⟩
      rw [aj]
      exact K1 i (by omega) h (by omega)
theorem sd_ynext1 {post : Int32 → Prop} {n L c j : Nat} {k : Int32} {g : Nat → Nat} {T : Nat → Int32} (hn : n ≤ 120) (k1 : -9 ≤ k.toInt) (k2 : k.toInt ≤ 9) (G : sd_G n k.toInt c g) (hj : j < c) (hi : ∀ i, i < j → g i < L)
    (hg : g j ≤ 3000) (K : post (nI (g j))) : ∀ (d y f : Nat), y + d = g j → d < f → L ≤ y → wY_next_13 post k (nI n) T f (nI y) := by
  intro d
  have no : ∀ y, L ≤ y → y < g j → ¬ sd_sol n k.toInt y := by
    intro y h1 h2 s
    obtain ⟨i, i1, i2⟩ := (G.2 y).mp ⟨by omega, s⟩
    rcases Nat.lt_trichotomy i j with z | z | z
    · have := hi i z; omega
    · subst z; omega
    · have := G.1 j i z i1; omega
  induction d with
  | zero =>
    intro y f e hf h
    obtain ⟨f, rfl⟩ : ∃ g, f = g + 1 := ⟨f - 1, by omega⟩
    have ey : y = g j := by omega
    subst ey
    refine br_f (nI_nlt (b := g j) (a := 3000) (by omega) (by decide)) ?_
    refine sd_find hn (by omega) k1 k2 (fun x hx ex => ?_) (fun s => ?_)
    · exact br_f (nI_pos hx) K
    · exact absurd ((G.2 (g j)).mpr ⟨j, hj, rfl⟩).2 s
  | succ d ih =>
    intro y f e hf h
    obtain ⟨f, rfl⟩ : ∃ g, f = g + 1 := ⟨f - 1, by omega⟩
    refine br_f (nI_nlt (b := y) (a := 3000) (by omega) (by decide)) ?_
    refine sd_find hn (by omega) k1 k2 (fun x hx ex => ?_) (fun s => ?_)
    · exact absurd ⟨x, ex⟩ (no y h (by omega))
    · exact br_t (by decide) (nm_r (nI_1 y) (ih (y + 1) f (by omega) (by omega) (by omega)))
theorem sd_ynext0 {post : Int32 → Prop} {n L c : Nat} {k : Int32} {g : Nat → Nat} {T : Nat → Int32} (hn : n ≤ 120) (k1 : -9 ≤ k.toInt) (k2 : k.toInt ≤ 9) (G : sd_G n k.toInt c g) (hi : ∀ i, i < c → g i < L)
    (K : post (-2)) : ∀ (d y f : Nat), y + d = 3001 → d < f → L ≤ y → wY_next_13 post k (nI n) T f (nI y) := by
  intro d
  induction d with
  | zero =>
    intro y f e hf h
    obtain ⟨f, rfl⟩ : ∃ g, f = g + 1 := ⟨f - 1, by omega⟩
    exact br_t (nI_lt (a := 3000) (by omega) (by omega)) K
  | succ d ih =>
    intro y f e hf h
    obtain ⟨f, rfl⟩ : ∃ g, f = g + 1 := ⟨f - 1, by omega⟩
    refine br_f (nI_nlt (b := y) (a := 3000) (by omega) (by decide)) ?_
    refine sd_find hn (by omega) k1 k2 (fun x hx ex => ?_) (fun s => ?_)
    · obtain ⟨i, i1, i2⟩ := (G.2 y).mp ⟨by omega, x, ex⟩
      have := hi i i1
      omega
    · exact br_t (by decide) (nm_r (nI_1 y) (ih (y + 1) f (by omega) (by omega) (by omega)))
/-! root -/
theorem sd_xroot {post : Int32 → SX → Prop} {n L c : Nat} {k : Int32} {g : Nat → Nat} {fp : Int32} {T ys : Nat → Int32} (hn : n ≤ 120) (k1 : -9 ≤ k.toInt) (k2 : k.toInt ≤ 9) (hL : L ≤ 3000) (hc : c < 64) (hg : ∀ i, i < c → ys i = nI (g i) ∧ g i ≤ 3000) (G : sd_G n k.toInt c g)
    (K0 : ¬ sd_sol n k.toInt L → post (-2) (nI n, fp, nI c, T, ys)) (K1 : ∀ x : Nat, ((x * x : Nat) : Int) = ((n * L * L : Nat) : Int) + k.toInt → post (nI x) (nI n, fp, nI c, T, ys)) :
    ∀ (d i f : Nat), i + d = c → d < f → (∀ l, l < i → g l ≠ L) → wX_root_28 post k (nI L) (nI n) fp (nI c) T ys f (nI i) := by
  have q : n * L * L ≤ 1080000000 := Nat.le_trans (Nat.mul_le_mul (Nat.mul_le_mul hn hL) hL) (by decide)
  intro d
  induction d with
  | zero =>
    intro i f e hf h
    obtain ⟨f, rfl⟩ : ∃ g, f = g + 1 := ⟨f - 1, by omega⟩
    refine br_t (nI_le (by omega) (by omega)) (K0 ?_)
    intro s
    obtain ⟨l, l1, l2⟩ := (G.2 L).mp ⟨hL, s⟩
    exact h l (by omega) l2
  | succ d ih =>
    intro i f e hf h
    obtain ⟨f, rfl⟩ : ∃ g, f = g + 1 := ⟨f - 1, by omega⟩
    obtain ⟨e1, e2⟩ := hg i (by omega)
    have aj : ys (nI i).toNatClampNeg = nI (g i) := by rw [nI_clamp (by omega)]; exact e1
    refine br_f (nI_ge (by omega) (by omega)) ⟨vp_in_nI (by omega) (by decide), ?_⟩
    by_cases x : g i = L
    · refine br_t (by rw [aj, x]) ?_
      obtain ⟨w, ew⟩ := ((G.2 L).mpr ⟨i, by omega, x⟩).2
      have hw : w * w < 2 ^ 31 := by omega
      have ev : k + nI n * nI L * nI L = nI (w * w) := by
        apply Int32.toInt_inj.mp
        rw [pk_mul, pk_mul, Int32.toInt_add, nI_toInt (by omega), nI_toInt hw, Int.bmod_eq_of_le (by omega) (by omega)]
        omega
      rw [ev]
      refine sd_xr (post := fun r_20 => post r_20 (nI n, fp, nI c, T, ys)) hw ?_
      intro r a b
      have : r = w := sd_ru a b (Nat.le_refl _) (Nat.mul_self_lt_mul_self (Nat.lt_succ_self w))
      subst this
      exact K1 r ew
    · refine br_f (fun z => x ((nI_eq (by omega) (by omega)).mp (aj.symm.trans z))) (nm_r (nI_1 i) (ih (i + 1) f (by omega) (by omega) ?_))
      intro l hl
      by_cases z : l = i
      · rw [z]; exact x
      · exact h l (by omega)
end
section
/-! what is owed -/
def sd_ref (n k l : Int32) : Prop := k < (-9) ∨ 9 < k ∨ k = 0 ∨ n ≤ k * k ∨ l < 0 ∨ ¬ l ≤ 3000
theorem sd_xh {A B : Prop} {fn fp fc : Int32} {T ys : Nat → Int32} {k l : Int32} (hA : sd_ref fn k l → A) (hB : ¬ sd_ref fn k l → B) :
    wpX_isAsked (fun r_1 => (((r_1 = 0 → A) ∧ (¬ r_1 = 0 → (((l < 0 → A) ∧ (¬ l < 0 → (((l ≤ 3000 → B) ∧ (¬ l ≤ 3000 → A))))))))))  (fn, fp, fc, T, ys) k := by
  have z1 : ¬ (1 : Int32) = 0 := by decide
  by_cases h1 : k < (-9)
  · exact br_t h1 (br_t rfl (hA (Or.inl h1)))
  refine br_f h1 ?_
  by_cases h2 : 9 < k
  · exact br_t h2 (br_t rfl (hA (Or.inr (Or.inl h2))))
  refine br_f h2 ?_
  by_cases h3 : k = 0
  · exact br_t h3 (br_t rfl (hA (Or.inr (Or.inr (Or.inl h3)))))
  refine br_f h3 ?_
  by_cases h4 : fn ≤ k * k
  · exact br_t h4 (br_t rfl (hA (Or.inr (Or.inr (Or.inr (Or.inl h4))))))
  refine br_f h4 (br_f z1 ?_)
  by_cases h5 : l < 0
  · exact br_t h5 (hA (Or.inr (Or.inr (Or.inr (Or.inr (Or.inl h5))))))
  refine br_f h5 ?_
  by_cases h6 : l ≤ 3000
  · refine br_t h6 (hB ?_)
    intro h
    rcases h with h | h | h | h | h | h
    · exact h1 h
    · exact h2 h
    · exact h3 h
    · exact h4 h
    · exact h5 h
    · exact h h6
  · exact br_f h6 (hA (Or.inr (Or.inr (Or.inr (Or.inr (Or.inr h6))))))
theorem sd_yh {A B : Prop} {fn : Int32} {T : Nat → Int32} {k l : Int32} (hA : sd_ref fn k l → A) (hB : ¬ sd_ref fn k l → B) :
    wpY_refused (fun r_1 => (((r_1 = 0 → B) ∧ (¬ r_1 = 0 → A)))) (fn, T) k l := by
  have z1 : ¬ (1 : Int32) = 0 := by decide
  by_cases h1 : k < (-9)
  · exact br_t h1 (br_f z1 (hA (Or.inl h1)))
  refine br_f h1 ?_
  by_cases h2 : 9 < k
  · exact br_t h2 (br_f z1 (hA (Or.inr (Or.inl h2))))
  refine br_f h2 ?_
  by_cases h3 : k = 0
  · exact br_t h3 (br_f z1 (hA (Or.inr (Or.inr (Or.inl h3)))))
  refine br_f h3 ?_
  by_cases h4 : fn ≤ k * k
  · exact br_t h4 (br_f z1 (hA (Or.inr (Or.inr (Or.inr (Or.inl h4))))))
  refine br_f h4 ?_
  by_cases h5 : l < 0
  · exact br_t h5 (br_f z1 (hA (Or.inr (Or.inr (Or.inr (Or.inr (Or.inl h5)))))))
  refine br_f h5 ?_
  by_cases h6 : l ≤ 3000
  · refine br_t h6 (br_t rfl (hB ?_))
    intro h
    rcases h with h | h | h | h | h | h
    · exact h1 h
    · exact h2 h
    · exact h3 h
    · exact h4 h
    · exact h5 h
    · exact h h6
  · exact br_f h6 (br_f z1 (hA (Or.inr (Or.inr (Or.inr (Or.inr (Or.inr h6)))))))
theorem sd_nref {n : Nat} (hn : n ≤ 120) {k l : Int32} (h : ¬ sd_ref (nI n) k l) : -9 ≤ k.toInt ∧ k.toInt ≤ 9 ∧ k.toInt ≠ 0 ∧ k.toInt * k.toInt < (n : Int) ∧ ∃ L, L ≤ 3000 ∧ l = nI L := by
  unfold sd_ref at h
  simp only [not_or, Classical.not_not] at h
  obtain ⟨h1, h2, h3, h4, h5, h6⟩ := h
  rw [Int32.lt_iff_toInt_lt, show (-9 : Int32).toInt = -9 from by decide] at h1
  rw [Int32.lt_iff_toInt_lt, show (9 : Int32).toInt = 9 from by decide] at h2
  have k1 : -9 ≤ k.toInt := by omega
  have k2 : k.toInt ≤ 9 := by omega
  rw [Int32.le_iff_toInt_le, nI_toInt (by omega), sd_ksq k1 k2] at h4
  refine ⟨k1, k2, fun z => h3 (Int32.toInt_inj.mp z), by omega, ?_⟩
  exact nI_of2 (M := 3000) (n := 3000) (by decide) h5 h6
/-- the relation: both hold the same n, and the row of n stands in the component -/
def i_Rel (_ : Nat) (u : SX) (v : SY) : Prop := ∃ (n : Nat) (fc : Int32) (T ys T' : Nat → Int32), sd_N n ∧ (∀ l, l ≤ sd_p n → T l = nI (sd_tm n (sd_r n) l)) ∧ u = (nI n, nI (sd_p n), fc, T, ys) ∧ v = (nI n, T')
theorem sd_mk {k n : Nat} {fc : Int32} {T ys T' : Nat → Int32} (H : sd_N n) (hT : ∀ l, l ≤ sd_p n → T l = nI (sd_tm n (sd_r n) l)) : i_Rel k (nI n, nI (sd_p n), fc, T, ys) (nI n, T') := ⟨n, fc, T, ys, T', H, hT, rfl, rfl⟩
theorem i_up {k : Nat} {u : SX} {v : SY} (h : i_Rel k u v) : i_Rel (k + 3) u v := h
theorem i_vc0 : wpX_init (fun u => wpY_init (fun v => i_Rel 0 u v)) := by
  have H : sd_N 2 := ⟨by decide, by decide, by decide⟩
  unfold wpX_init
  refine sd_find_row (n := 2) H (fun T hT => ?_)
  exact sd_mk (k := 0) (n := 2) H hT
theorem sd_yset {post : Int32 → SY → Prop} {fn : Int32} {T : Nat → Int32} {m : Nat} (m2 : 2 ≤ m) (m120 : m ≤ 120) (A : sd_r m * sd_r m = m → post (-1) (fn, T)) (B : sd_r m * sd_r m ≠ m → post 0 (nI m, T)) : wpY_set post (fn, T) (nI m) := by
  obtain ⟨r1, r2, r3, r4⟩ := sd_r_spec m2 m120
  refine br_f (nI_nlt (b := 2) (by omega) (by omega)) (br_f (nI_nlt (a := 120) (by omega) (by decide)) ?_)
  unfold wpY_isSquare
  refine sd_yr (by omega) ?_
  intro r a b
  rw [sd_ru a b r1 r2]
  have q : nI (sd_r m) * nI (sd_r m) = nI m ↔ sd_r m * sd_r m = m := by rw [pk_mul]; exact nI_eq (by omega) (by omega)
  by_cases w : sd_r m * sd_r m = m
  · exact br_t (q.mpr w) (br_f (by decide) (A w))
  · exact br_f (fun z => w (q.mp z)) (br_t rfl (B w))
theorem sd_xset {post : Int32 → SX → Prop} {fn fp fc : Int32} {T ys : Nat → Int32} {m : Nat} (m2 : 2 ≤ m) (m120 : m ≤ 120) (A : sd_r m * sd_r m = m → post (-1) (fn, fp, fc, T, ys))
    (B : sd_N m → ∀ T', (∀ l, l ≤ sd_p m → T' l = nI (sd_tm m (sd_r m) l)) → post 0 (nI m, nI (sd_p m), fc, T', ys)) : wpX_set post (fn, fp, fc, T, ys) (nI m) := by
  obtain ⟨r1, r2, r3, r4⟩ := sd_r_spec m2 m120
  refine br_f (nI_nlt (b := 2) (by omega) (by omega)) (br_t (nI_le (b := 120) (by omega) (by decide)) ?_)
  refine sd_xr (by omega) ?_
  intro r a b
  rw [sd_ru a b r1 r2]
  have q : nI (sd_r m) * nI (sd_r m) = nI m ↔ sd_r m * sd_r m = m := by rw [pk_mul]; exact nI_eq (by omega) (by omega)
  by_cases w : sd_r m * sd_r m = m
  · exact br_t (q.mpr w) (A w)
  · refine br_f (fun z => w (q.mp z)) ?_
    exact sd_find_row ⟨m2, m120, w⟩ (fun T' hT' => B ⟨m2, m120, w⟩ T' hT')
theorem i_vc_set {k : Nat} {u : SX} {v : SY} (I : i_Rel k u v) (hk : k + 3 ≤ 1536) (v1 : Int32) : wpX_set (fun r u' => wpY_set (fun r' v' => r' = r ∧ i_Rel (k + 3) u' v') v v1) u v1 := by
  obtain ⟨n, fc, T, ys, T', H, hT, rfl, rfl⟩ := I
  by_cases h1 : v1 < 2
  · exact br_t h1 (br_t h1 ⟨rfl, sd_mk H hT⟩)
  by_cases h2 : v1 ≤ 120
  · have h0 : ¬ v1 < 0 := by
      intro z
      rw [Int32.lt_iff_toInt_lt, show (0 : Int32).toInt = 0 from by decide] at z
      rw [Int32.lt_iff_toInt_lt, show (2 : Int32).toInt = 2 from by decide] at h1
      omega
    obtain ⟨m, hm, rfl⟩ := nI_of2 (M := 120) (n := 120) (by decide) h0 h2
    have m2 : 2 ≤ m := by
      rcases Nat.lt_or_ge m 2 with z | z
      · exact absurd (nI_lt (b := 2) z (by decide)) h1
      · exact z
    refine sd_xset m2 hm (fun e => ?_) (fun N T2 hT2 => ?_)
    · exact sd_yset m2 hm (fun _ => ⟨rfl, sd_mk H hT⟩) (fun z => absurd e z)
    · exact sd_yset m2 hm (fun z => absurd z N.2.2) (fun _ => ⟨rfl, sd_mk N hT2⟩)
  · have h3 : 120 < v1 := Int32.not_le.mp h2
    exact br_f h1 (br_f h2 (br_f h1 (br_t h3 ⟨rfl, sd_mk H hT⟩)))
theorem i_vc_term {k : Nat} {u : SX} {v : SY} (I : i_Rel k u v) (hk : k + 3 ≤ 1536) (v1 : Int32) : wpX_term (fun r => wpY_term (fun r' v' => r' = r ∧ i_Rel (k + 3) u v') v v1) u v1 := by
  obtain ⟨n, fc, T, ys, T', H, hT, rfl, rfl⟩ := I
  by_cases h1 : v1 < 0
  · exact br_t h1 (br_t h1 ⟨rfl, sd_mk H hT⟩)
  by_cases h2 : v1 ≤ 100
  · obtain ⟨j, hj, rfl⟩ := nI_of2 (M := 100) (n := 100) (by decide) h1 h2
    refine br_f h1 (br_t h2 (sd_termAt (sd_NR H) (by omega) hT ?_))
    refine br_f h1 (br_t h2 (sd_write H (fun T2 hT2 => ?_)))
    refine ⟨vp_in_nI (by omega) (by decide), ?_, sd_mk H hT⟩
    rw [nI_clamp (by omega)]
    exact hT2 j (by omega)
  · exact br_f h1 (br_f h2 (br_f h1 (br_f h2 ⟨rfl, sd_mk H hT⟩)))
theorem i_vc_period {k : Nat} {u : SX} {v : SY} (I : i_Rel k u v) (hk : k + 3 ≤ 1536) : wpX_period (fun r => wpY_period (fun r' v' => r' = r ∧ i_Rel (k + 3) u v') v) u := by
  obtain ⟨n, fc, T, ys, T', H, hT, rfl, rfl⟩ := I
  have R := sd_NR H
  have p1 := R.1.1
  unfold wpX_period wpY_period
  dsimp only
  refine sd_write H (fun T2 hT2 => ?_)
  exact ⟨sd_p n + 1, sd_per_loop R hT2 ⟨rfl, sd_mk H hT⟩ (sd_p n - 1) 1 (sd_p n + 1) (by omega) (by omega) (by omega)⟩
theorem sd_at0 {c : Nat} {g : Nat → Nat} : sd_at2 c g 0 0 := ⟨Nat.zero_le _, fun i hi => absurd hi (Nat.not_lt_zero i), fun i _ _ => Nat.zero_le _⟩
theorem i_vc_solutions {k : Nat} {u : SX} {v : SY} (I : i_Rel k u v) (hk : k + 3 ≤ 1536) (v1 : Int32) (v2 : Int32) : wpX_solutions (fun r u' => wpY_solutions (fun r' => r' = r ∧ i_Rel (k + 3) u' v) v v1 v2) u v1 v2 := by
  obtain ⟨n, fc, T, ys, T', H, hT, rfl, rfl⟩ := I
  have h120 := H.2.1
  unfold wpX_solutions wpY_solutions
  dsimp only
  refine sd_xh (fun hr => sd_yh (fun _ => ⟨rfl, sd_mk H hT⟩) (fun w => absurd hr w)) (fun hr => ?_)
  obtain ⟨k1, k2, k0, kn, L, hL, rfl⟩ := sd_nref h120 hr
  refine sd_ls H k1 k2 k0 kn hT (fun c ys' hc E => ?_)
  obtain ⟨g, g1, g2, g3⟩ := E
  obtain ⟨J, B⟩ := sd_Jx (L := L) c g2
  refine ⟨c + 1, sd_xsol hL (by omega) g1 B ?_ c 0 (c + 1) 0 (by omega) (by omega) (by omega)⟩
  refine sd_yh (fun w => absurd w hr) (fun _ => ?_)
  exact ⟨L + 2, sd_ysol h120 k1 k2 hL ⟨g2, g3⟩ B ⟨rfl, sd_mk H hT⟩ (L + 1) 0 (L + 2) 0 (by omega) (by omega) sd_at0⟩
theorem i_vc_next {k : Nat} {u : SX} {v : SY} (I : i_Rel k u v) (hk : k + 3 ≤ 1536) (v1 : Int32) (v2 : Int32) : wpX_next (fun r u' => wpY_next (fun r' => r' = r ∧ i_Rel (k + 3) u' v) v v1 v2) u v1 v2 := by
  obtain ⟨n, fc, T, ys, T', H, hT, rfl, rfl⟩ := I
  have h120 := H.2.1
  unfold wpX_next wpY_next
  dsimp only
  refine sd_xh (fun hr => sd_yh (fun _ => ⟨rfl, sd_mk H hT⟩) (fun w => absurd hr w)) (fun hr => ?_)
  obtain ⟨k1, k2, k0, kn, L, hL, rfl⟩ := sd_nref h120 hr
  refine sd_ls H k1 k2 k0 kn hT (fun c ys' hc E => ?_)
  obtain ⟨g, g1, g2, g3⟩ := E
  refine ⟨c + 1, sd_xnext hL (by omega) g1 (fun h => ?_) (fun j hj h1 h2 => ?_) c 0 (c + 1) (by omega) (by omega) (fun l hl => absurd hl (Nat.not_lt_zero l))⟩
  · refine sd_yh (fun w => absurd w hr) (fun _ => ?_)
    exact ⟨3002, sd_ynext0 h120 k1 k2 ⟨g2, g3⟩ h ⟨rfl, sd_mk H hT⟩ (3001 - L) L 3002 (by omega) (by omega) (Nat.le_refl _)⟩
  · refine sd_yh (fun w => absurd w hr) (fun _ => ?_)
    have g3000 := (g1 j hj).2
    exact ⟨3002, sd_ynext1 h120 k1 k2 ⟨g2, g3⟩ hj h1 g3000 ⟨rfl, sd_mk H hT⟩ (g j - L) L 3002 (by omega) (by omega) (Nat.le_refl _)⟩
theorem i_vc_root {k : Nat} {u : SX} {v : SY} (I : i_Rel k u v) (hk : k + 3 ≤ 1536) (v1 : Int32) (v2 : Int32) : wpX_root (fun r u' => wpY_root (fun r' => r' = r ∧ i_Rel (k + 3) u' v) v v1 v2) u v1 v2 := by
  obtain ⟨n, fc, T, ys, T', H, hT, rfl, rfl⟩ := I
  have h120 := H.2.1
  unfold wpX_root wpY_root
  dsimp only
  refine sd_xh (fun hr => sd_yh (fun _ => ⟨rfl, sd_mk H hT⟩) (fun w => absurd hr w)) (fun hr => ?_)
  obtain ⟨k1, k2, k0, kn, L, hL, rfl⟩ := sd_nref h120 hr
  refine sd_ls H k1 k2 k0 kn hT (fun c ys' hc E => ?_)
  obtain ⟨g, g1, g2, g3⟩ := E
  refine ⟨c + 1, sd_xroot h120 k1 k2 hL (by omega) g1 ⟨g2, g3⟩ (fun h => ?_) (fun x ex => ?_) c 0 (c + 1) (by omega) (by omega) (fun l hl => absurd hl (Nat.not_lt_zero l))⟩
  · refine sd_yh (fun w => absurd w hr) (fun _ => ?_)
    exact sd_find h120 hL k1 k2 (fun x _ ex => absurd ⟨x, ex⟩ h) (fun _ => ⟨rfl, sd_mk H hT⟩)
  · refine sd_yh (fun w => absurd w hr) (fun _ => ?_)
    refine sd_find h120 hL k1 k2 (fun x' _ ex' => ⟨?_, sd_mk H hT⟩) (fun h => absurd ⟨x, ex⟩ h)
    exact congrArg nI (sd_sqi (by omega))
theorem i_vc_sum {k : Nat} {u : SX} {v : SY} (I : i_Rel k u v) (hk : k + 3 ≤ 1536) (v1 : Int32) (v2 : Int32) : wpX_sum (fun r u' => wpY_sum (fun r' => r' = r ∧ i_Rel (k + 3) u' v) v v1 v2) u v1 v2 := by
  obtain ⟨n, fc, T, ys, T', H, hT, rfl, rfl⟩ := I
  have h120 := H.2.1
  unfold wpX_sum wpY_sum
  dsimp only
  refine sd_xh (fun hr => sd_yh (fun _ => ⟨rfl, sd_mk H hT⟩) (fun w => absurd hr w)) (fun hr => ?_)
  obtain ⟨k1, k2, k0, kn, L, hL, rfl⟩ := sd_nref h120 hr
  refine sd_ls H k1 k2 k0 kn hT (fun c ys' hc E => ?_)
  obtain ⟨g, g1, g2, g3⟩ := E
  obtain ⟨J, B⟩ := sd_Jx (L := L) c g2
  refine ⟨c + 1, sd_xsum hL (by omega) g1 B ?_ c 0 (c + 1) 0 (by omega) (by omega) (by omega)⟩
  refine sd_yh (fun w => absurd w hr) (fun _ => ?_)
  exact ⟨L + 2, sd_ysum h120 k1 k2 hL ⟨g2, g3⟩ B ⟨rfl, sd_mk H hT⟩ (L + 1) 0 (L + 2) 0 (by omega) (by omega) sd_at0⟩
end
