section
/-! bit k of a plane -/
def lj_b (x : Int64) (k : Nat) : Bool := x.toBitVec.getLsbD k
theorem lj_and (x y : Int64) (k : Nat) : lj_b (x &&& y) k = (lj_b x k && lj_b y k) := by unfold lj_b; rw [Int64.toBitVec_and, BitVec.getLsbD_and]
theorem lj_or (x y : Int64) (k : Nat) : lj_b (x ||| y) k = (lj_b x k || lj_b y k) := by unfold lj_b; rw [Int64.toBitVec_or, BitVec.getLsbD_or]
theorem lj_xor (x y : Int64) (k : Nat) : lj_b (x ^^^ y) k = (lj_b x k ^^ lj_b y k) := by unfold lj_b; rw [Int64.toBitVec_xor, BitVec.getLsbD_xor]
theorem lj_m1 : ∀ k, k < 64 → lj_b (-1) k = true := by decide +kernel
theorem lj_0 (k : Nat) : lj_b 0 k = false := BitVec.getLsbD_zero
theorem lj_not (x : Int64) {k : Nat} (h : k < 64) : lj_b (x ^^^ (-1)) k = !lj_b x k := by rw [lj_xor, lj_m1 k h, Bool.xor_true]
theorem lj_ext {x y : Int64} (h : ∀ k, k < 64 → lj_b x k = lj_b y k) : x = y := Int64.toBitVec_inj.mp (BitVec.eq_of_getLsbD_eq (fun i hi => h i hi))
theorem lj_ne0 {x : Int64} (h : ¬ x = 0) : ∃ k, k < 64 ∧ lj_b x k = true := by
  apply Classical.byContradiction
  intro hn
  apply h
  apply lj_ext
  intro k hk
  rw [lj_0]
  cases hb : lj_b x k with
  | false => rfl
  | true => exact absurd ⟨k, hk, hb⟩ hn
/-! sums over lanes -/
def lj_sum (f : Nat → Nat) : Nat → Nat
  | 0 => 0
  | n + 1 => lj_sum f n + f n
theorem lj_sum_le {f g : Nat → Nat} : ∀ n, (∀ k, k < n → f k ≤ g k) → lj_sum f n ≤ lj_sum g n := by
  intro n
  induction n with
  | zero => exact fun _ => Nat.le_refl _
  | succ n ih =>
    intro h
    have h1 := ih (fun k hk => h k (by omega))
    have h2 := h n (by omega)
    show lj_sum f n + f n ≤ lj_sum g n + g n
    omega
theorem lj_sum_lt {f g : Nat → Nat} : ∀ n, (∀ k, k < n → f k ≤ g k) → (∃ k, k < n ∧ f k < g k) → lj_sum f n < lj_sum g n := by
  intro n
  induction n with
  | zero => exact fun _ h => absurd h.choose_spec.1 (by omega)
  | succ n ih =>
    intro h he
    obtain ⟨k, hk, hl⟩ := he
    have h2 := h n (by omega)
    show lj_sum f n + f n < lj_sum g n + g n
    by_cases e : k = n
    · subst e
      have h1 := lj_sum_le k (fun i hi => h i (by omega) : ∀ i, i < k → f i ≤ g i)
      omega
    · have h1 := ih (fun i hi => h i (by omega)) ⟨k, by omega, hl⟩
      omega
theorem lj_sum_c {f : Nat → Nat} {c : Nat} : ∀ n, (∀ k, k < n → f k ≤ c) → lj_sum f n ≤ n * c := by
  intro n
  induction n with
  | zero => exact fun _ => Nat.zero_le _
  | succ n ih =>
    intro h
    have h1 := ih (fun k hk => h k (by omega))
    have h2 := h n (by omega)
    show lj_sum f n + f n ≤ (n + 1) * c
    rw [Nat.succ_mul]
    omega
theorem lj_sum_one {f : Nat → Nat} : ∀ n, (∀ k, k < n → f k = 1) → lj_sum f n = n := by
  intro n
  induction n with
  | zero => exact fun _ => rfl
  | succ n ih =>
    intro h
    have h1 := ih (fun k hk => h k (by omega))
    have h2 := h n (by omega)
    show lj_sum f n + f n = n + 1
    omega
theorem lj_sum_add (f g : Nat → Nat) : ∀ n, lj_sum f n + lj_sum g n = lj_sum (fun k => f k + g k) n := by
  intro n
  induction n with
  | zero => rfl
  | succ n ih =>
    show (lj_sum f n + f n) + (lj_sum g n + g n) = lj_sum (fun k => f k + g k) n + (f n + g n)
    omega
/-! the number of ones: bytewise -/
def lj_pop : Nat → Nat → Nat
  | 0, _ => 0
  | n + 1, x => x % 2 + lj_pop n (x / 2)
theorem lj_pop_top : ∀ n x, lj_pop (n + 1) x = lj_pop n x + x / 2 ^ n % 2 := by
  intro n
  induction n with
  | zero => intro x; show x % 2 + 0 = 0 + x / 1 % 2; rw [Nat.div_one]; omega
  | succ n ih =>
    intro x
    show x % 2 + lj_pop (n + 1) (x / 2) = x % 2 + lj_pop n (x / 2) + x / 2 ^ (n + 1) % 2
    rw [ih, Nat.div_div_eq_div_mul, Nat.pow_succ, Nat.mul_comm 2]
    omega
theorem lj_pop_8 (n x : Nat) : lj_pop (n + 8) x = lj_pop 8 (x % 256) + lj_pop n (x / 256) := by
  have e : x / 2 / 2 / 2 / 2 / 2 / 2 / 2 / 2 = x / 256 := by omega
  simp only [lj_pop]
  rw [e]
  omega
theorem lj_bt (x : Int64) (k : Nat) : (lj_b x k).toNat = x.toUInt64.toNat / 2 ^ k % 2 := by
  have h : lj_b x k = x.toUInt64.toNat.testBit k := rfl
  rw [h, Nat.testBit_eq_decide_div_mod_eq]
  generalize x.toUInt64.toNat / 2 ^ k = z
  by_cases e : z % 2 = 1
  · rw [decide_eq_true e, e]; rfl
  · rw [decide_eq_false e]
    show 0 = z % 2
    omega
theorem lj_pop_sum (x : Int64) : ∀ n, lj_pop n x.toUInt64.toNat = lj_sum (fun k => (lj_b x k).toNat) n := by
  intro n
  induction n with
  | zero => rfl
  | succ n ih =>
    rw [lj_pop_top, ih]
    show _ = lj_sum (fun k => (lj_b x k).toNat) n + (lj_b x n).toNat
    rw [lj_bt]
def lj_M (c : Nat) : Nat → Nat
  | 0 => 0
  | n + 1 => c + 256 * lj_M c n
theorem lj_and8 (a c m : Nat) (hc : c < 256) : a &&& (c + 256 * m) = (a % 256 &&& c) + 256 * (a / 256 &&& m) := by
  have h1 : (a &&& (c + 256 * m)) % 2 ^ 8 = (a % 2 ^ 8) &&& ((c + 256 * m) % 2 ^ 8) := Nat.and_mod_two_pow
  have h2 : (a &&& (c + 256 * m)) / 2 ^ 8 = (a / 2 ^ 8) &&& ((c + 256 * m) / 2 ^ 8) := Nat.and_div_two_pow
  have h3 : (c + 256 * m) % 2 ^ 8 = c := by omega
  have h4 : (c + 256 * m) / 2 ^ 8 = m := by omega
  rw [h3] at h1
  rw [h4] at h2
  have h5 : (a % 256 &&& c) = (a % 2 ^ 8 &&& c) := rfl
  have h6 : (a / 256 &&& m) = (a / 2 ^ 8 &&& m) := rfl
  rw [h5, h6, ← h1, ← h2]
  omega
def lj_f1 (n x : Nat) : Nat := x - (x / 2 &&& lj_M 85 n)
def lj_f2 (n x : Nat) : Nat := (x &&& lj_M 51 n) + (x / 4 &&& lj_M 51 n)
def lj_f3 (n x : Nat) : Nat := (x + x / 16) &&& lj_M 15 n
theorem lj_d1 : ∀ t, t < 2 → ∀ r, r < 256 → (r / 2 + 128 * t) &&& 85 = (r / 2 &&& 85) := by decide +kernel
theorem lj_d2 : ∀ t, t < 4 → ∀ r, r < 256 → (r / 4 + 64 * t) &&& 51 = (r / 4 &&& 51) := by decide +kernel
theorem lj_f1_s (n r y : Nat) (hr : r < 256) : lj_f1 (n + 1) (r + 256 * y) = (r - (r / 2 &&& 85)) + 256 * lj_f1 n y := by
  unfold lj_f1
  show r + 256 * y - ((r + 256 * y) / 2 &&& (85 + 256 * lj_M 85 n)) = _
  rw [lj_and8 _ 85 _ (by omega)]
  have e1 : (r + 256 * y) / 2 % 256 = r / 2 + 128 * (y % 2) := by omega
  have e2 : (r + 256 * y) / 2 / 256 = y / 2 := by omega
  rw [e1, e2, lj_d1 (y % 2) (by omega) r hr]
  have h1 : r / 2 &&& 85 ≤ r / 2 := Nat.and_le_left
  have h2 : y / 2 &&& lj_M 85 n ≤ y / 2 := Nat.and_le_left
  omega
theorem lj_f2_s (n r y : Nat) (hr : r < 256) : lj_f2 (n + 1) (r + 256 * y) = ((r &&& 51) + (r / 4 &&& 51)) + 256 * lj_f2 n y := by
  unfold lj_f2
  show ((r + 256 * y) &&& (51 + 256 * lj_M 51 n)) + ((r + 256 * y) / 4 &&& (51 + 256 * lj_M 51 n)) = _
  rw [lj_and8 _ 51 _ (by omega), lj_and8 _ 51 _ (by omega)]
  have e1 : (r + 256 * y) / 4 % 256 = r / 4 + 64 * (y % 4) := by omega
  have e2 : (r + 256 * y) / 4 / 256 = y / 4 := by omega
  have e3 : (r + 256 * y) % 256 = r := by omega
  have e4 : (r + 256 * y) / 256 = y := by omega
  rw [e1, e2, e3, e4, lj_d2 (y % 4) (by omega) r hr]
  omega
theorem lj_d3 : ∀ r, r < 256 → (r - (r / 2 &&& 85)) < 256 ∧ ((r - (r / 2 &&& 85)) &&& 51) + ((r - (r / 2 &&& 85)) / 4 &&& 51) ≤ 68 ∧ (((r - (r / 2 &&& 85)) &&& 51) + ((r - (r / 2 &&& 85)) / 4 &&& 51)) % 16 ≤ 4 := by decide +kernel
theorem lj_d4 : ∀ t, t < 5 → ∀ r, r < 256 → (((((r - (r / 2 &&& 85)) &&& 51) + ((r - (r / 2 &&& 85)) / 4 &&& 51)) + (((r - (r / 2 &&& 85)) &&& 51) + ((r - (r / 2 &&& 85)) / 4 &&& 51)) / 16 + 16 * t) &&& 15) = lj_pop 8 r := by decide +kernel
theorem lj_pop8_le : ∀ r, r < 256 → lj_pop 8 r ≤ 8 := by decide +kernel
def lj_D : Nat → Nat → Nat
  | 0, _ => 0
  | n + 1, x => lj_pop 8 (x % 256) + 256 * lj_D n (x / 256)
theorem lj_swar : ∀ n x, x < 256 ^ n → lj_f3 n (lj_f2 n (lj_f1 n x)) = lj_D n x ∧ lj_f2 n (lj_f1 n x) % 16 ≤ 4 := by
  intro n
  induction n with
  | zero =>
    intro x _
    have e2 : ∀ y, lj_f2 0 y = 0 := fun y => by
      unfold lj_f2 lj_M
      rw [Nat.and_zero, Nat.and_zero]
    refine ⟨Nat.and_zero _, ?_⟩
    rw [e2]
    decide
  | succ n ih =>
    intro x hx
    have hx' : x / 256 < 256 ^ n := by
      rw [Nat.pow_succ] at hx
      exact Nat.div_lt_of_lt_mul (by rw [Nat.mul_comm]; exact hx)
    obtain ⟨i1, i2⟩ := ih (x / 256) hx'
    have hr : x % 256 < 256 := Nat.mod_lt _ (by omega)
    have ex : x = x % 256 + 256 * (x / 256) := by omega
    have E : lj_D (n + 1) x = lj_pop 8 (x % 256) + 256 * lj_D n (x / 256) := rfl
    rw [E]
    have F1 : lj_f1 (n + 1) x = (x % 256 - (x % 256 / 2 &&& 85)) + 256 * lj_f1 n (x / 256) := by
      rw [← lj_f1_s n (x % 256) (x / 256) hr, ← ex]
    rw [F1]
    obtain ⟨d1, d2, d3⟩ := lj_d3 (x % 256) hr
    rw [lj_f2_s n _ _ d1]
    have d4 := lj_d4 (lj_f2 n (lj_f1 n (x / 256)) % 16) (by omega) (x % 256) hr
    generalize lj_f2 n (lj_f1 n (x / 256)) = y at i1 i2 d4
    generalize ((x % 256 - (x % 256 / 2 &&& 85)) &&& 51) + ((x % 256 - (x % 256 / 2 &&& 85)) / 4 &&& 51) = q at d2 d3 d4
    refine ⟨?_, by omega⟩
    unfold lj_f3
    show (q + 256 * y + (q + 256 * y) / 16) &&& (15 + 256 * lj_M 15 n) = _
    rw [lj_and8 _ 15 _ (by omega)]
    have e1 : (q + 256 * y + (q + 256 * y) / 16) % 256 = q + q / 16 + 16 * (y % 16) := by omega
    have e2 : (q + 256 * y + (q + 256 * y) / 16) / 256 = y + y / 16 := by omega
    rw [e1, e2, d4]
    unfold lj_f3 at i1
    rw [i1]
theorem lj_mulA (s r h : Nat) (hr : r < 72057594037927936) (hs : s ≤ 64) : ((72057594037927936 * s + r) + 18446744073709551616 * h) % 18446744073709551616 / 72057594037927936 = s := by
  omega
theorem lj_mulB (c0 c1 c2 c3 c4 c5 c6 c7 : Nat) : (c0 + 256 * (c1 + 256 * (c2 + 256 * (c3 + 256 * (c4 + 256 * (c5 + 256 * (c6 + 256 * (c7 + 256 * 0)))))))) * 72340172838076673 = (72057594037927936 * (c0 + c1 + c2 + c3 + c4 + c5 + c6 + c7) + (1 * (c0) + 256 * (c0 + c1) + 65536 * (c0 + c1 + c2) + 16777216 * (c0 + c1 + c2 + c3) + 4294967296 * (c0 + c1 + c2 + c3 + c4) + 1099511627776 * (c0 + c1 + c2 + c3 + c4 + c5) + 281474976710656 * (c0 + c1 + c2 + c3 + c4 + c5 + c6))) + 18446744073709551616 * (1 * (c1 + c2 + c3 + c4 + c5 + c6 + c7) + 256 * (c2 + c3 + c4 + c5 + c6 + c7) + 65536 * (c3 + c4 + c5 + c6 + c7) + 16777216 * (c4 + c5 + c6 + c7) + 4294967296 * (c5 + c6 + c7) + 1099511627776 * (c6 + c7) + 281474976710656 * (c7)) := by
  omega
theorem lj_mulC (c0 c1 c2 c3 c4 c5 c6 c7 : Nat) (h0 : c0 ≤ 8) (h1 : c1 ≤ 8) (h2 : c2 ≤ 8) (h3 : c3 ≤ 8) (h4 : c4 ≤ 8) (h5 : c5 ≤ 8) (h6 : c6 ≤ 8) (h7 : c7 ≤ 8) : 1 * (c0) + 256 * (c0 + c1) + 65536 * (c0 + c1 + c2) + 16777216 * (c0 + c1 + c2 + c3) + 4294967296 * (c0 + c1 + c2 + c3 + c4) + 1099511627776 * (c0 + c1 + c2 + c3 + c4 + c5) + 281474976710656 * (c0 + c1 + c2 + c3 + c4 + c5 + c6) < 72057594037927936 := by
  omega
theorem lj_mul8 (c0 c1 c2 c3 c4 c5 c6 c7 : Nat) (h0 : c0 ≤ 8) (h1 : c1 ≤ 8) (h2 : c2 ≤ 8) (h3 : c3 ≤ 8) (h4 : c4 ≤ 8) (h5 : c5 ≤ 8) (h6 : c6 ≤ 8) (h7 : c7 ≤ 8) : ((c0 + 256 * (c1 + 256 * (c2 + 256 * (c3 + 256 * (c4 + 256 * (c5 + 256 * (c6 + 256 * (c7 + 256 * 0)))))))) * 72340172838076673 % 18446744073709551616) / 72057594037927936 = c0 + (c1 + (c2 + (c3 + (c4 + (c5 + (c6 + (c7 + 0))))))) := by
  have e := congrArg (fun z => z % 18446744073709551616 / 72057594037927936) (lj_mulB c0 c1 c2 c3 c4 c5 c6 c7)
  refine e.trans ((lj_mulA _ _ _ (lj_mulC c0 c1 c2 c3 c4 c5 c6 c7 h0 h1 h2 h3 h4 h5 h6 h7) (by omega)).trans ?_)
  omega
theorem lj_hsum (x : Nat) : (lj_D 8 x * 72340172838076673 % 18446744073709551616) / 72057594037927936 = lj_pop 64 x := by
  have e : lj_pop 64 x = lj_pop 8 (x % 256) + (lj_pop 8 (x / 256 % 256) + (lj_pop 8 (x / 256 / 256 % 256) + (lj_pop 8 (x / 256 / 256 / 256 % 256) + (lj_pop 8 (x / 256 / 256 / 256 / 256 % 256) + (lj_pop 8 (x / 256 / 256 / 256 / 256 / 256 % 256) + (lj_pop 8 (x / 256 / 256 / 256 / 256 / 256 / 256 % 256) + (lj_pop 8 (x / 256 / 256 / 256 / 256 / 256 / 256 / 256 % 256) + 0))))))) := by
    have l : ∀ y, lj_pop 8 y = lj_pop 8 (y % 256) + 0 := fun y => lj_pop_8 0 y
    rw [lj_pop_8 56, lj_pop_8 48, lj_pop_8 40, lj_pop_8 32, lj_pop_8 24, lj_pop_8 16, lj_pop_8 8, l (x / 256 / 256 / 256 / 256 / 256 / 256 / 256)]
  have p : ∀ y, lj_pop 8 (y % 256) ≤ 8 := fun y => lj_pop8_le _ (Nat.mod_lt _ (by omega))
  rw [e]
  exact lj_mul8 _ _ _ _ _ _ _ _ (p _) (p _) (p _) (p _) (p _) (p _) (p _) (p _)
/-! an Int64 as an unsigned number -/
def lj_u (x : Int64) : Nat := x.toUInt64.toNat
theorem lj_u_lt (x : Int64) : lj_u x < 18446744073709551616 := x.toUInt64.toNat_lt
theorem lj_u_inj {x y : Int64} (h : lj_u x = lj_u y) : x = y := congrArg UInt64.toInt64 (UInt64.toNat_inj.mp h)
theorem lj_u_add (x y : Int64) : lj_u (x + y) = (lj_u x + lj_u y) % 18446744073709551616 := by
  show (x.toUInt64 + y.toUInt64).toNat = _
  exact UInt64.toNat_add _ _
theorem lj_u_sub {x y : Int64} (h : lj_u y ≤ lj_u x) : lj_u (x - y) = lj_u x - lj_u y := by
  show (x.toUInt64 - y.toUInt64).toNat = _
  exact UInt64.toNat_sub_of_le _ _ h
theorem lj_u_mul (x y : Int64) : lj_u (x * y) = (lj_u x * lj_u y) % 18446744073709551616 := by
  show (x.toUInt64 * y.toUInt64).toNat = _
  exact UInt64.toNat_mul _ _
theorem lj_u_and (x y : Int64) : lj_u (x &&& y) = lj_u x &&& lj_u y := by
  show (x.toUInt64 &&& y.toUInt64).toNat = _
  exact UInt64.toNat_and _ _
theorem lj_u_shr (x : Int64) (s : UInt64) : lj_u (x.toUInt64 >>> s).toInt64 = lj_u x / 2 ^ (s.toNat % 64) := by
  show (x.toUInt64 >>> s).toNat = _
  rw [UInt64.toNat_shiftRight, Nat.shiftRight_eq_div_pow]
  rfl
/-- what ones(p) answers -/
def lj_v1 (p : Int64) : Int64 := p - (((p.toUInt64 >>> ((1 : Int32).toInt64.toUInt64 &&& Int64.toUInt64 63)).toInt64) &&& 6148914691236517205)
def lj_v2 (p : Int64) : Int64 := (p &&& 3689348814741910323) + (((p.toUInt64 >>> ((2 : Int32).toInt64.toUInt64 &&& Int64.toUInt64 63)).toInt64) &&& 3689348814741910323)
def lj_v3 (p : Int64) : Int64 := (p + ((p.toUInt64 >>> ((4 : Int32).toInt64.toUInt64 &&& Int64.toUInt64 63)).toInt64)) &&& 1085102592571150095
def lj_v4 (p : Int64) : Int32 := (((p * 72340172838076673).toUInt64 >>> ((56 : Int32).toInt64.toUInt64 &&& Int64.toUInt64 63)).toInt64).toInt32
def lj_on (p : Int64) : Int32 := lj_v4 (lj_v3 (lj_v2 (lj_v1 p)))
def lj_pp (p : Int64) : Nat := lj_sum (fun k => (lj_b p k).toNat) 64
theorem lj_u1 (p : Int64) : lj_u (lj_v1 p) = lj_f1 8 (lj_u p) := by
  unfold lj_v1
  have h : ((1 : Int32).toInt64.toUInt64 &&& Int64.toUInt64 63).toNat % 64 = 1 := by decide
  have hm : lj_u 6148914691236517205 = lj_M 85 8 := by decide +kernel
  have e : lj_u (((p.toUInt64 >>> ((1 : Int32).toInt64.toUInt64 &&& Int64.toUInt64 63)).toInt64) &&& 6148914691236517205) = (lj_u p / 2 &&& lj_M 85 8) := by
    rw [lj_u_and, lj_u_shr, h, hm]
  have hl : lj_u p / 2 &&& lj_M 85 8 ≤ lj_u p / 2 := Nat.and_le_left
  rw [lj_u_sub (by rw [e]; omega), e]
  rfl
theorem lj_f2_lt : ∀ x, lj_f2 8 x < 18446744073709551616 := by
  intro x
  have h1 : x &&& lj_M 51 8 ≤ lj_M 51 8 := Nat.and_le_right
  have h2 : x / 4 &&& lj_M 51 8 ≤ lj_M 51 8 := Nat.and_le_right
  have h3 : lj_M 51 8 = 3689348814741910323 := by decide +kernel
  unfold lj_f2
  omega
theorem lj_u2 (p : Int64) : lj_u (lj_v2 p) = lj_f2 8 (lj_u p) := by
  unfold lj_v2
  have h : ((2 : Int32).toInt64.toUInt64 &&& Int64.toUInt64 63).toNat % 64 = 2 := by decide
  have hm : lj_u 3689348814741910323 = lj_M 51 8 := by decide +kernel
  rw [lj_u_add, lj_u_and, lj_u_and, lj_u_shr, h, hm]
  exact Nat.mod_eq_of_lt (lj_f2_lt (lj_u p))
theorem lj_u3 (p : Int64) (hp : lj_u p ≤ 7378697629483820646) : lj_u (lj_v3 p) = lj_f3 8 (lj_u p) := by
  unfold lj_v3
  have h : ((4 : Int32).toInt64.toUInt64 &&& Int64.toUInt64 63).toNat % 64 = 4 := by decide
  have hm : lj_u 1085102592571150095 = lj_M 15 8 := by decide +kernel
  rw [lj_u_and, lj_u_add, lj_u_shr, h, hm]
  have e : (lj_u p + lj_u p / 2 ^ 4) % 18446744073709551616 = lj_u p + lj_u p / 16 := by omega
  rw [e]
  rfl
theorem lj_u_lN {n : Nat} (h : n < 18446744073709551616) : lj_u (lN n) = n := Nat.mod_eq_of_lt h
theorem lj_on_pop (p : Int64) : lj_on p = nI (lj_pp p) := by
  have h1 := lj_u1 p
  have h2 := lj_u2 (lj_v1 p)
  have h3 : lj_u (lj_v2 (lj_v1 p)) ≤ 7378697629483820646 := by
    rw [h2]
    have h1 : lj_u (lj_v1 p) &&& lj_M 51 8 ≤ lj_M 51 8 := Nat.and_le_right
    have h2 : lj_u (lj_v1 p) / 4 &&& lj_M 51 8 ≤ lj_M 51 8 := Nat.and_le_right
    have h3 : lj_M 51 8 = 3689348814741910323 := by decide +kernel
    unfold lj_f2
    omega
  have h4 := lj_u3 _ h3
  rw [h2, h1, (lj_swar 8 (lj_u p) (lj_u_lt p)).1] at h4
  have h : ((56 : Int32).toInt64.toUInt64 &&& Int64.toUInt64 63).toNat % 64 = 56 := by decide
  have hm : lj_u 72340172838076673 = 72340172838076673 := by decide +kernel
  have h5 : lj_u (((lj_v3 (lj_v2 (lj_v1 p)) * 72340172838076673).toUInt64 >>> ((56 : Int32).toInt64.toUInt64 &&& Int64.toUInt64 63)).toInt64) = lj_pop 64 (lj_u p) := by
    rw [lj_u_shr, h, lj_u_mul, h4, hm]
    exact lj_hsum (lj_u p)
  have h6 : lj_pop 64 (lj_u p) = lj_pp p := lj_pop_sum p 64
  rw [h6] at h5
  have h7 : lj_pp p ≤ 64 * 1 := lj_sum_c 64 (fun k _ => by cases lj_b p k <;> decide)
  have h8 := lj_u_inj (h5.trans (lj_u_lN (by omega)).symm)
  unfold lj_on lj_v4
  rw [h8]
  exact lN_i _
end
section
/-! the lowest bit -/
theorem lj_low_i {p : Int64} {k : Nat} (hk : k < 64) (hb : lj_b p k = true) (hl : ∀ j, j < k → lj_b p j = false) : (p &&& (-p)) = lN (2 ^ k) := by
  apply lj_ext
  intro i hi
  rw [lj_and]
  have hn : lj_b (-p) i = (lj_b p i ^^ (decide (i < 64) && decide (∃ j, j < i ∧ lj_b p j = true))) := by
    unfold lj_b
    rw [Int64.toBitVec_neg, BitVec.getLsbD_neg]
  have hr : lj_b (lN (2 ^ k)) i = decide (k = i) := by
    have e : (lN (2 ^ k)).toBitVec = BitVec.twoPow 64 k := by
      show BitVec.ofNat 64 (2 ^ k) = _
      exact BitVec.eq_of_toNat_eq (by rw [BitVec.toNat_ofNat, BitVec.toNat_twoPow])
    unfold lj_b
    rw [e, BitVec.getLsbD_twoPow, decide_eq_true hk, Bool.true_and]
  rw [hn, hr, decide_eq_true hi, Bool.true_and]
  rcases Nat.lt_trichotomy i k with h | h | h
  · rw [hl i h, Bool.false_and, decide_eq_false (by omega)]
  · subst h
    have : ¬ ∃ j, j < i ∧ lj_b p j = true := fun ⟨j, h1, h2⟩ => by rw [hl j h1] at h2; cases h2
    rw [hb, decide_eq_false this, decide_eq_true rfl]
    rfl
  · rw [decide_eq_true (⟨k, h, hb⟩ : ∃ j, j < i ∧ lj_b p j = true), decide_eq_false (show ¬ k = i by omega)]
    cases lj_b p i <;> rfl
theorem lj_m1_pp : ∀ k, k < 64 → lj_on (lN (2 ^ k) - 1) = nI k := by decide +kernel
theorem lj_on_0 : lj_on 0 = 0 := by decide +kernel
theorem lj_on_m1 : lj_on (-1) = 64 := by decide +kernel
/-- what lowest(p) answers -/
def lj_lw (p : Int64) : Int32 := if p = 0 then -1 else lj_on ((p &&& (-p)) - 1)
theorem lj_lw_some (p : Int64) (h : ¬ p = 0) : ∃ k, k < 64 ∧ lj_lw p = nI k ∧ lj_b p k = true ∧ ∀ j, j < k → lj_b p j = false := by
  obtain ⟨k, ⟨hk, hb⟩, hl⟩ := pk_least (fun k => k < 64 ∧ lj_b p k = true) (lj_ne0 h)
  have hl' : ∀ j, j < k → lj_b p j = false := by
    intro j hj
    cases e : lj_b p j with
    | false => rfl
    | true => exact absurd ⟨by omega, e⟩ (hl j hj)
  refine ⟨k, hk, ?_, hb, hl'⟩
  unfold lj_lw
  rw [if_neg h, lj_low_i hk hb hl']
  exact lj_m1_pp k hk
/-! the steps of a lane -/
def lj_st (a : Nat → Int64) (k : Nat) : Nat → Nat
  | 0 => 0
  | n + 1 => lj_st a k n + (lj_b (a n) k).toNat * 2 ^ n
theorem lj_st_lt (a : Nat → Int64) (k : Nat) : ∀ n, lj_st a k n < 2 ^ n := by
  intro n
  induction n with
  | zero => exact Nat.one_pos
  | succ n ih =>
    show lj_st a k n + (lj_b (a n) k).toNat * 2 ^ n < 2 ^ (n + 1)
    rw [Nat.pow_succ]
    generalize 2 ^ n = P at ih
    cases lj_b (a n) k
    · show lj_st a k n + 0 * P < P * 2
      omega
    · show lj_st a k n + 1 * P < P * 2
      omega
theorem lj_st_e {a b : Nat → Int64} {k : Nat} : ∀ n, (∀ j, j < n → a j = b j) → lj_st a k n = lj_st b k n := by
  intro n
  induction n with
  | zero => exact fun _ => rfl
  | succ n ih =>
    intro h
    show lj_st a k n + (lj_b (a n) k).toNat * 2 ^ n = lj_st b k n + (lj_b (b n) k).toNat * 2 ^ n
    rw [ih (fun j hj => h j (by omega)), h n (by omega)]
theorem lj_st_0 {a : Nat → Int64} {k : Nat} : ∀ n, (∀ j, j < n → a j = 0) → lj_st a k n = 0 := by
  intro n
  induction n with
  | zero => exact fun _ => rfl
  | succ n ih =>
    intro h
    show lj_st a k n + (lj_b (a n) k).toNat * 2 ^ n = 0
    rw [ih (fun j hj => h j (by omega)), h n (by omega), lj_0]
    show 0 + 0 * 2 ^ n = 0
    omega
/-- one step of countStep, on one lane -/
theorem lj_st_up {a b : Nat → Int64} {c l : Int64} {k j : Nat} (h : lj_st b k j + (lj_b c k).toNat * 2 ^ j = lj_st a k j + (lj_b l k).toNat) (he : b j = a j) :
    lj_st (vp_updL b j (b j ^^^ c)) k (j + 1) + (lj_b (b j &&& c) k).toNat * 2 ^ (j + 1) = lj_st a k (j + 1) + (lj_b l k).toNat := by
  show lj_st (vp_updL b j (b j ^^^ c)) k j + (lj_b (vp_updL b j (b j ^^^ c) j) k).toNat * 2 ^ j + (lj_b (b j &&& c) k).toNat * 2 ^ (j + 1) = lj_st a k j + (lj_b (a j) k).toNat * 2 ^ j + (lj_b l k).toNat
  rw [lj_st_e (b := b) j (fun i hi => pk_uLn (by omega)), pk_uLs, lj_xor, lj_and, he, Nat.pow_succ]
  generalize 2 ^ j = P at h
  generalize (lj_b l k).toNat = t at h
  generalize lj_b (a j) k = u
  generalize lj_b c k = v at h
  cases u <;> cases v <;> simp only [Bool.toNat, Bool.xor_false, Bool.xor_true, Bool.false_xor, Bool.and_false, Bool.and_true, Bool.false_and, Bool.true_and, Bool.not_true, Bool.not_false, cond_true, cond_false] at h ⊢ <;> omega
/-- one step of atLimit, on one lane -/
theorem lj_lim_up {a : Nat → Int64} {x : Int64} {k j lim : Nat} (hk : k < 64) (h : lj_b x k = decide (lj_st a k j = lim % 2 ^ j)) :
    (lim / 2 ^ j % 2 = 0 → lj_b (x &&& (a j ^^^ (-1))) k = decide (lj_st a k (j + 1) = lim % 2 ^ (j + 1))) ∧
    (¬ lim / 2 ^ j % 2 = 0 → lj_b (x &&& a j) k = decide (lj_st a k (j + 1) = lim % 2 ^ (j + 1))) := by
  have hs := lj_st_lt a k j
  have hm : lim % 2 ^ j < 2 ^ j := Nat.mod_lt _ (Nat.two_pow_pos j)
  have e : lj_st a k (j + 1) = lj_st a k j + (lj_b (a j) k).toNat * 2 ^ j := rfl
  rw [Nat.mod_pow_succ, e, lj_and, lj_and, lj_not _ hk, h]
  generalize lim % 2 ^ j = q at hm
  generalize hz : lim / 2 ^ j % 2 = z
  have hz2 : z < 2 := by rw [← hz]; exact Nat.mod_lt _ (by omega)
  generalize lj_st a k j = s at hs
  generalize 2 ^ j = P at hs hm
  refine ⟨fun h0 => ?_, fun h1 => ?_⟩
  · subst h0
    cases lj_b (a j) k
    · show (decide (s = q) && true) = decide (s + 0 * P = q + P * 0)
      rw [Bool.and_true]
      exact decide_eq_decide.mpr (by omega)
    · show (decide (s = q) && false) = decide (s + 1 * P = q + P * 0)
      rw [Bool.and_false]
      exact (decide_eq_false (by omega)).symm
  · have h2 : z = 1 := by omega
    subst h2
    cases lj_b (a j) k
    · show (decide (s = q) && false) = decide (s + 0 * P = q + P * 1)
      rw [Bool.and_false]
      exact (decide_eq_false (by omega)).symm
    · show (decide (s = q) && true) = decide (s + 1 * P = q + P * 1)
      rw [Bool.and_true]
      exact decide_eq_decide.mpr (by omega)
theorem lj_limbit : ∀ lim, lim < 41 → ∀ j, j < 6 → (((nI lim >>> (nI j &&& 31)) &&& 1) = 0 ↔ lim / 2 ^ j % 2 = 0) := by decide +kernel
theorem lj_stbit : ∀ j, j < 6 → ∀ v, v < 2 ^ j → ∀ b : Bool, nI v ||| (nI b.toNat <<< (nI j &&& 31)) = nI (v + b.toNat * 2 ^ j) := by decide +kernel
theorem lj_cnt : ∀ k, k < 64 → ((nI k).toInt64.toUInt64 &&& Int64.toUInt64 63).toNat = k := by decide +kernel
/-- (plane >>> k) & 1 -/
theorem lj_bitv (x : Int64) {k : Nat} (hk : k < 64) : ((x.toUInt64 >>> ((nI k).toInt64.toUInt64 &&& Int64.toUInt64 63)).toInt64) &&& 1 = lN (lj_b x k).toNat := by
  apply lj_u_inj
  rw [lj_u_and, lj_u_shr, lj_cnt k hk, Nat.mod_eq_of_lt hk, lj_bt]
  have h1 : lj_u 1 = 1 := by decide
  rw [h1, Nat.and_one_is_mod, lj_u_lN (by omega)]
  rfl
theorem lj_bit0 (x : Int64) {k : Nat} (hk : k < 64) : (((x.toUInt64 >>> ((nI k).toInt64.toUInt64 &&& Int64.toUInt64 63)).toInt64) &&& 1) = 0 ↔ lj_b x k = false := by
  rw [lj_bitv x hk]
  cases lj_b x k <;> decide
theorem lj_byte : ∀ n, n < 16 → (nI n).toInt8.toInt32 = nI n := by decide +kernel
/-! where the lanes are: 0..11 waiting there, 12..15 settled with that fate, 16 in hand -/
def lj_at (sz : Nat) (w f : Nat → Int64) (loc : Nat → Nat) : Prop :=
  ∀ k, k < 64 → (∀ p, p < 12 → lj_b (w p) k = decide (loc k = p)) ∧ (∀ g, g < 4 → lj_b (f g) k = decide (loc k = 12 + g)) ∧ (loc k < sz ∨ 12 ≤ loc k) ∧ loc k ≤ 16
/-- the lanes x are now at q -/
def lj_to (x : Int64) (q : Nat) (loc loc' : Nat → Nat) : Prop := ∀ k, k < 64 → (lj_b x k = true → loc' k = q) ∧ (lj_b x k = false → loc' k = loc k)
theorem lj_to_i (x : Int64) (q : Nat) (loc : Nat → Nat) : lj_to x q loc (fun k => if lj_b x k = true then q else loc k) :=
  fun _ _ => ⟨fun h => if_pos h, fun h => if_neg (by rw [h]; decide)⟩
theorem lj_atF {sz : Nat} {w f : Nat → Int64} {loc loc' : Nat → Nat} (h : lj_at sz w f loc) {g : Nat} (hg : g < 4) (x : Int64) (hx : ∀ k, k < 64 → lj_b x k = true → loc k = 16) (ht : lj_to x (12 + g) loc loc') :
    lj_at sz w (vp_updL f g (f g ||| x)) loc' := by
  intro k hk
  obtain ⟨h1, h2, h3, h4⟩ := h k hk
  obtain ⟨t1, t2⟩ := ht k hk
  cases hb : lj_b x k with
  | true =>
    have hl := hx k hk hb
    have e := t1 hb
    refine ⟨fun p hp => ?_, fun g' hg' => ?_, Or.inr (by omega), by omega⟩
    · rw [h1 p hp]
      exact decide_eq_decide.mpr (by omega)
    · by_cases e' : g' = g
      · subst e'
        rw [pk_uLs, lj_or, hb, Bool.or_true, decide_eq_true e]
      · rw [pk_uLn e', h2 g' hg']
        exact decide_eq_decide.mpr (by omega)
  | false =>
    have e := t2 hb
    rw [e]
    refine ⟨h1, fun g' hg' => ?_, h3, h4⟩
    by_cases e' : g' = g
    · subst e'
      rw [pk_uLs, lj_or, hb, Bool.or_false, h2 g' hg']
    · rw [pk_uLn e', h2 g' hg']
theorem lj_atW {sz : Nat} {w f : Nat → Int64} {loc loc' : Nat → Nat} (h : lj_at sz w f loc) {q : Nat} (hq : q < sz) (hs : sz ≤ 12) (x : Int64) (hx : ∀ k, k < 64 → lj_b x k = true → loc k = 16) (ht : lj_to x q loc loc') :
    lj_at sz (vp_updL w q (w q ||| x)) f loc' := by
  intro k hk
  obtain ⟨h1, h2, h3, h4⟩ := h k hk
  obtain ⟨t1, t2⟩ := ht k hk
  cases hb : lj_b x k with
  | true =>
    have hl := hx k hk hb
    have e := t1 hb
    refine ⟨fun p hp => ?_, fun g' hg' => ?_, Or.inl (by omega), by omega⟩
    · by_cases e' : p = q
      · subst e'
        rw [pk_uLs, lj_or, hb, Bool.or_true, decide_eq_true e]
      · rw [pk_uLn e', h1 p hp]
        exact decide_eq_decide.mpr (by omega)
    · rw [h2 g' hg']
      exact decide_eq_decide.mpr (by omega)
  | false =>
    have e := t2 hb
    rw [e]
    refine ⟨fun p hp => ?_, h2, h3, h4⟩
    by_cases e' : p = q
    · subst e'
      rw [pk_uLs, lj_or, hb, Bool.or_false, h1 p hp]
    · rw [pk_uLn e', h1 p hp]
theorem lj_atT {sz : Nat} {w f : Nat → Int64} {loc loc' : Nat → Nat} (h : lj_at sz w f loc) {q : Nat} (hq : q < 12) (ht : ∀ k, k < 64 → (loc k = q → loc' k = 16) ∧ (loc k ≠ q → loc' k = loc k)) :
    lj_at sz (vp_updL w q 0) f loc' := by
  intro k hk
  obtain ⟨h1, h2, h3, h4⟩ := h k hk
  obtain ⟨t1, t2⟩ := ht k hk
  by_cases hb : loc k = q
  · have e := t1 hb
    refine ⟨fun p hp => ?_, fun g' hg' => ?_, Or.inr (by omega), by omega⟩
    · by_cases e' : p = q
      · subst e'
        rw [pk_uLs, lj_0]
        exact (decide_eq_false (by omega)).symm
      · rw [pk_uLn e', h1 p hp]
        exact decide_eq_decide.mpr (by omega)
    · rw [h2 g' hg']
      exact decide_eq_decide.mpr (by omega)
  · have e := t2 hb
    rw [e]
    refine ⟨fun p hp => ?_, h2, h3, h4⟩
    by_cases e' : p = q
    · subst e'
      rw [pk_uLs, lj_0]
      exact (decide_eq_false hb).symm
    · rw [pk_uLn e', h1 p hp]
/-- all lanes are settled, each with one fate; none took more than 40 steps -/
def lj_done (a5 a7 : Nat → Int64) : Prop := ∃ fa : Nat → Nat, ∀ k, k < 64 → fa k < 4 ∧ (∀ g, g < 4 → lj_b (a7 g) k = decide (fa k = g)) ∧ lj_st a5 k 6 ≤ 40
/-- the program's rows -/
def lj_P (l s : Int32) (a2 a3 : Nat → Int32) : Prop := ∃ lim sz : Nat, l = nI lim ∧ lim ≤ 40 ∧ s = nI sz ∧ sz ≤ 12 ∧ ∀ p, p < sz → ∃ a b : Nat, a2 p = nI a ∧ a ≤ 3 ∧ a3 p = nI b ∧ b ≤ 15
def lj_J (j : Int32) (a5 a7 : Nat → Int64) : Prop := j = 0 ∨ (j = 1 ∧ lj_done a5 a7)
end
section
section
variable {post : St1 → Prop} {postR : Int64 → St1 → Prop} {fl fs fj fk : Int32} {a1 a2 a3 : Nat → Int32} {a4 a5 a6 a7 a8 a9 a10 a11 a12 a13 a14 a15 a16 : Nat → Int64}
theorem lj_ix4 (a i : Nat) : nI a * 4 + nI i = nI (a * 4 + i) := by
  show nI a * nI 4 + nI i = _
  rw [pk_mul, nI_add]
theorem lj_load {x1 x2 : Int32} {a b : Nat} (h1 : x1 = nI a) (ha : a ≤ 3) (h2 : x2 = nI b) (hb : b ≤ 3) (hp : ∀ b10 b11, post (fl, fs, fj, fk, a1, a2, a3, a4, a5, a6, a7, a8, a9, b10, b11, a12, a13, a14, a15, a16)) : wpX_load post (fl, fs, fj, fk, a1, a2, a3, a4, a5, a6, a7, a8, a9, a10, a11, a12, a13, a14, a15, a16) x1 x2 := by
  subst h1 h2
  exact pk_loop (σ := (Nat → Int64) × (Nat → Int64)) (fun n i t => wX_load_2 post (nI a) (nI b) fl fs fj fk n (nI i) a1 a2 a3 a4 a5 a6 a7 a8 a9 t.1 t.2 a12 a13 a14 a15 a16) (fun _ _ => True) 4 0 (a10, a11) (by omega) trivial
    (fun n t _ => pk_le 4 4 (fun _ => hp t.1 t.2) (fun z => absurd z (by omega)))
    (fun n i t hi _ hw => pk_le 4 i (fun z => absurd z (by omega)) (fun _ => ⟨pk_in (a * 4 + i) 16 (by omega) (lj_ix4 a i), pk_in i 4 hi, nm_e ⟨pk_in (b * 4 + i) 16 (by omega) (lj_ix4 b i), pk_in i 4 hi, nm_e (nm_r (nI_1 i) (hw (_, _) trivial))⟩⟩))
theorem lj_store {x1 : Int32} {x : Int64} {a : Nat} (h1 : x1 = nI a) (ha : a ≤ 3) (hp : ∀ b4, post (fl, fs, fj, fk, a1, a2, a3, b4, a5, a6, a7, a8, a9, a10, a11, a12, a13, a14, a15, a16)) : wpX_store post (fl, fs, fj, fk, a1, a2, a3, a4, a5, a6, a7, a8, a9, a10, a11, a12, a13, a14, a15, a16) x1 x := by
  subst h1
  exact pk_loop (σ := (Nat → Int64)) (fun n i t => wX_store_3 post (nI a) x fl fs fj fk n (nI i) a1 a2 a3 t a5 a6 a7 a8 a9 a10 a11 a12 a13 a14 a15 a16) (fun _ _ => True) 4 0 a4 (by omega) trivial
    (fun n t _ => pk_le 4 4 (fun _ => hp t) (fun z => absurd z (by omega)))
    (fun n i t hi _ hw => pk_le 4 i (fun z => absurd z (by omega)) (fun _ => nm_r (lj_ix4 a i) ⟨pk_in (a * 4 + i) 16 (by omega), pk_in i 4 hi, pk_in (a * 4 + i) 16 (by omega), nm_e (nm_r (nI_1 i) (hw _ trivial))⟩))
theorem lj_bitwise {x1 x2 : Int32} (hp : ∀ b12, post (fl, fs, fj, fk, a1, a2, a3, a4, a5, a6, a7, a8, a9, a10, a11, b12, a13, a14, a15, a16)) : wpX_bitwise post (fl, fs, fj, fk, a1, a2, a3, a4, a5, a6, a7, a8, a9, a10, a11, a12, a13, a14, a15, a16) x1 x2 :=
  pk_loop (σ := (Nat → Int64)) (fun n i t => wX_bitwise_2 post x1 x2 fl fs fj fk n (nI i) a1 a2 a3 a4 a5 a6 a7 a8 a9 a10 a11 t a13 a14 a15 a16) (fun _ _ => True) 4 0 a12 (by omega) trivial
    (fun n t _ => pk_le 4 4 (fun _ => hp t) (fun z => absurd z (by omega)))
    (fun n i t hi _ hw => pk_le 4 i (fun z => absurd z (by omega)) (fun _ => br_c
      (fun _ => br_c (fun _ => ⟨pk_in i 4 hi, nm_e (nm_r (nI_1 i) (hw _ trivial))⟩) (fun _ => ⟨pk_in i 4 hi, nm_e (nm_r (nI_1 i) (hw _ trivial))⟩))
      (fun _ => br_c (fun _ => ⟨pk_in i 4 hi, pk_in i 4 hi, nm_e (nm_r (nI_1 i) (hw _ trivial))⟩)
        (fun _ => br_c (fun _ => ⟨pk_in i 4 hi, pk_in i 4 hi, pk_in i 4 hi, nm_e (nm_r (nI_1 i) (hw _ trivial))⟩) (fun _ => ⟨pk_in i 4 hi, pk_in i 4 hi, pk_in i 4 hi, nm_e (nm_r (nI_1 i) (hw _ trivial))⟩)))))
theorem lj_subtract (hp : ∀ r b12, postR r (fl, fs, fj, fk, a1, a2, a3, a4, a5, a6, a7, a8, a9, a10, a11, b12, a13, a14, a15, a16)) : wpX_subtract postR (fl, fs, fj, fk, a1, a2, a3, a4, a5, a6, a7, a8, a9, a10, a11, a12, a13, a14, a15, a16) :=
  pk_loop (σ := Int64 × (Nat → Int64)) (fun n i t => wX_subtract_4 postR fl fs fj fk n t.1 (nI i) a1 a2 a3 a4 a5 a6 a7 a8 a9 a10 a11 t.2 a13 a14 a15 a16) (fun _ _ => True) 4 0 (0, a12) (by omega) trivial
    (fun n t _ => pk_le 4 4 (fun _ => hp t.1 t.2) (fun z => absurd z (by omega)))
    (fun n i t hi _ hw => pk_le 4 i (fun z => absurd z (by omega)) (fun _ => ⟨pk_in i 4 hi, pk_in i 4 hi, nm_e ⟨pk_in i 4 hi, nm_e ⟨pk_in i 4 hi, pk_in i 4 hi, nm_e (nm_r (nI_1 i) (hw (_, _) trivial))⟩⟩⟩))
theorem lj_add (hp : ∀ b12, post (fl, fs, fj, fk, a1, a2, a3, a4, a5, a6, a7, a8, a9, a10, a11, b12, a13, a14, a15, a16)) : wpX_add post (fl, fs, fj, fk, a1, a2, a3, a4, a5, a6, a7, a8, a9, a10, a11, a12, a13, a14, a15, a16) :=
  pk_loop (σ := Int64 × (Nat → Int64)) (fun n i t => wX_add_4 post fl fs fj fk n t.1 (nI i) a1 a2 a3 a4 a5 a6 a7 a8 a9 a10 a11 t.2 a13 a14 a15 a16) (fun _ _ => True) 4 0 (0, a12) (by omega) trivial
    (fun n t _ => pk_le 4 4 (fun _ => hp t.2) (fun z => absurd z (by omega)))
    (fun n i t hi _ hw => pk_le 4 i (fun z => absurd z (by omega)) (fun _ => ⟨pk_in i 4 hi, pk_in i 4 hi, nm_e ⟨pk_in i 4 hi, nm_e ⟨pk_in i 4 hi, pk_in i 4 hi, nm_e (nm_r (nI_1 i) (hw (_, _) trivial))⟩⟩⟩))
theorem lj_mul32 {J : Int32 → (Nat → Int32) → (Nat → Int32) → (Nat → Int32) → (Nat → Int64) → (Nat → Int64) → (Nat → Int64) → (Nat → Int64) → (Nat → Int64) → (Nat → Int64) → (Nat → Int64) → (Nat → Int64) → (Nat → Int64) → (Nat → Int64) → (Nat → Int64) → (Nat → Int64) → (Nat → Int64) → Prop} {i : Nat} (hi : i < 4) (hJ : ∀ b12, J (nI (i + 1)) a1 a2 a3 a4 a5 a6 a7 a8 a9 a10 a11 b12 a13 a14 a15 a16) : ∃ n, wX_multiply_32 post J (nI i) fl fs fj fk n 0 (nI i) a1 a2 a3 a4 a5 a6 a7 a8 a9 a10 a11 a12 a13 a14 a15 a16 :=
  pk_loop (σ := Int64 × (Nat → Int64)) (fun n q t => wX_multiply_32 post J (nI i) fl fs fj fk n t.1 (nI q) a1 a2 a3 a4 a5 a6 a7 a8 a9 a10 a11 t.2 a13 a14 a15 a16) (fun q _ => i ≤ q) 4 i (0, a12) (by omega) (Nat.le_refl i)
    (fun n t _ => pk_le 4 4 (fun _ => nm_r (nI_1 i) (hJ t.2)) (fun z => absurd z (by omega)))
    (fun n q t hq hI hw => pk_le 4 q (fun z => absurd z (by omega)) (fun _ => ⟨pk_in (q - i) 4 (by omega) (pk_sub hI), pk_in i 4 hi, nm_e ⟨pk_in q 4 hq, nm_e ⟨pk_in q 4 hq, nm_e ⟨pk_in q 4 hq, nm_e (nm_r (nI_1 q) (hw (_, _) (Nat.le_succ_of_le hI)))⟩⟩⟩⟩))
theorem lj_mul22 (hp : ∀ b12, post (fl, fs, fj, fk, a1, a2, a3, a4, a5, a6, a7, a8, a9, a10, a11, b12, a13, a14, a15, a16)) : ∃ n, wX_multiply_22 post fl fs fj fk n 0 a1 a2 a3 a4 a5 a6 a7 a8 a9 a10 a11 a12 a13 a14 a15 a16 :=
  pk_loop (σ := (Nat → Int64)) (fun n i t => wX_multiply_22 post fl fs fj fk n (nI i) a1 a2 a3 a4 a5 a6 a7 a8 a9 a10 a11 t a13 a14 a15 a16) (fun _ _ => True) 4 0 a12 (by omega) trivial
    (fun n t _ => pk_le 4 4 (fun _ => hp t) (fun z => absurd z (by omega)))
    (fun n i t hi _ hw => pk_le 4 i (fun z => absurd z (by omega)) (fun _ => lj_mul32 hi (fun b12 => hw b12 trivial)))
theorem lj_multiply (hp : ∀ b12, post (fl, fs, fj, fk, a1, a2, a3, a4, a5, a6, a7, a8, a9, a10, a11, b12, a13, a14, a15, a16)) : wpX_multiply post (fl, fs, fj, fk, a1, a2, a3, a4, a5, a6, a7, a8, a9, a10, a11, a12, a13, a14, a15, a16) :=
  pk_loop (σ := (Nat → Int64)) (fun n i t => wX_multiply_2 post fl fs fj fk n (nI i) a1 a2 a3 a4 a5 a6 a7 a8 a9 a10 a11 t a13 a14 a15 a16) (fun _ _ => True) 4 0 a12 (by omega) trivial
    (fun n t _ => pk_le 4 4 (fun _ => lj_mul22 hp) (fun z => absurd z (by omega)))
    (fun n i t hi _ hw => pk_le 4 i (fun z => absurd z (by omega)) (fun _ => ⟨pk_in i 4 hi, nm_e (nm_r (nI_1 i) (hw _ trivial))⟩))
theorem lj_compute {x1 x2 : Int32} (hp : ∀ b12, post (fl, fs, fj, fk, a1, a2, a3, a4, a5, a6, a7, a8, a9, a10, a11, b12, a13, a14, a15, a16)) : wpX_compute post (fl, fs, fj, fk, a1, a2, a3, a4, a5, a6, a7, a8, a9, a10, a11, a12, a13, a14, a15, a16) x1 x2 := by
  unfold wpX_compute
  exact br_c (fun _ => lj_add (fun b12 => hp b12)) (fun _ => br_c (fun _ => lj_subtract (fun r b12 => hp b12)) (fun _ => br_c (fun _ => lj_multiply (fun b12 => hp b12))
    (fun _ => br_c (fun _ => lj_subtract (fun r b12 => nm_e (nm_e (nm_e (nm_e (hp _)))))) (fun _ => lj_bitwise (fun b12 => hp b12)))))
theorem lj_rest24 {J : Int64 → Int32 → (Nat → Int32) → (Nat → Int32) → (Nat → Int32) → (Nat → Int64) → (Nat → Int64) → (Nat → Int64) → (Nat → Int64) → (Nat → Int64) → (Nat → Int64) → (Nat → Int64) → (Nat → Int64) → (Nat → Int64) → (Nat → Int64) → (Nat → Int64) → (Nat → Int64) → (Nat → Int64) → Prop} {c z0 : Int64} {i : Nat} (hi : i < 5) (hJ : ∀ c' b14, J c' (nI (i + 1)) a1 a2 a3 a4 a5 a6 a7 a8 a9 a10 a11 a12 a13 b14 a15 a16) : wX_restMinusY_24 postR J c (nI i) z0 fl fs fj fk a1 a2 a3 a4 a5 a6 a7 a8 a9 a10 a11 a12 a13 a14 a15 a16 :=
  ⟨pk_in i 5 hi, nm_e ⟨pk_in i 5 hi, nm_e ⟨pk_in i 5 hi, nm_e (nm_r (nI_1 i) (hJ _ _))⟩⟩⟩
theorem lj_rest (hp : ∀ r b14, postR r (fl, fs, fj, fk, a1, a2, a3, a4, a5, a6, a7, a8, a9, a10, a11, a12, a13, b14, a15, a16)) : wpX_restMinusY postR (fl, fs, fj, fk, a1, a2, a3, a4, a5, a6, a7, a8, a9, a10, a11, a12, a13, a14, a15, a16) :=
  pk_loop (σ := Int64 × (Nat → Int64)) (fun n i t => wX_restMinusY_4 postR fl fs fj fk n t.1 (nI i) a1 a2 a3 a4 a5 a6 a7 a8 a9 a10 a11 a12 a13 t.2 a15 a16) (fun _ _ => True) 5 0 (0, a14) (by omega) trivial
    (fun n t _ => pk_le 5 5 (fun _ => hp t.1 t.2) (fun z => absurd z (by omega)))
    (fun n i t hi _ hw => pk_le 5 i (fun z => absurd z (by omega)) (fun _ => pk_le 4 i (fun _ => lj_rest24 hi (fun c b14 => hw (c, b14) trivial)) (fun h4 => ⟨pk_in i 4 h4, lj_rest24 hi (fun c b14 => hw (c, b14) trivial)⟩)))
theorem lj_d83 {J : Int32 → Int32 → Int32 → Int32 → Int32 → (Nat → Int32) → (Nat → Int32) → (Nat → Int32) → (Nat → Int64) → (Nat → Int64) → (Nat → Int64) → (Nat → Int64) → (Nat → Int64) → (Nat → Int64) → (Nat → Int64) → (Nat → Int64) → (Nat → Int64) → (Nat → Int64) → (Nat → Int64) → (Nat → Int64) → (Nat → Int64) → Prop} {x1 : Int32} {x2 : Int64} (hJ : ∀ b13, J (x1 + (-1)) fl fs fj fk a1 a2 a3 a4 a5 a6 a7 a8 a9 a10 a11 a12 b13 a14 a15 a16) : ∃ n, wX_divide_83 post J x1 x2 fl fs fj fk n 0 a1 a2 a3 a4 a5 a6 a7 a8 a9 a10 a11 a12 a13 a14 a15 a16 :=
  pk_loop (σ := (Nat → Int64)) (fun n i t => wX_divide_83 post J x1 x2 fl fs fj fk n (nI i) a1 a2 a3 a4 a5 a6 a7 a8 a9 a10 a11 a12 t a14 a15 a16) (fun _ _ => True) 5 0 a13 (by omega) trivial
    (fun n t _ => pk_le 5 5 (fun _ => nm_e (hJ t)) (fun z => absurd z (by omega)))
    (fun n i t hi _ hw => pk_le 5 i (fun z => absurd z (by omega)) (fun _ => ⟨pk_in i 5 hi, pk_in i 5 hi, pk_in i 5 hi, nm_e (nm_r (nI_1 i) (hw _ trivial))⟩))
theorem lj_d28 {J : Int32 → Int32 → Int32 → Int32 → Int32 → (Nat → Int32) → (Nat → Int32) → (Nat → Int32) → (Nat → Int64) → (Nat → Int64) → (Nat → Int64) → (Nat → Int64) → (Nat → Int64) → (Nat → Int64) → (Nat → Int64) → (Nat → Int64) → (Nat → Int64) → (Nat → Int64) → (Nat → Int64) → (Nat → Int64) → (Nat → Int64) → Prop} {i : Nat} (hi : i < 4) (hJ : ∀ b12 b13 b14, J (nI i + (-1)) fl fs fj fk a1 a2 a3 a4 a5 a6 a7 a8 a9 a10 a11 b12 b13 b14 a15 a16) : ∃ n, wX_divide_28 post J (nI i) fl fs fj fk n 4 a1 a2 a3 a4 a5 a6 a7 a8 a9 a10 a11 a12 a13 a14 a15 a16 :=
  ⟨5, pk_loopD (σ := (Nat → Int64)) (fun n q t => wX_divide_28 post J (nI i) fl fs fj fk n (nI q) a1 a2 a3 a4 a5 a6 a7 a8 a9 a10 a11 a12 t a14 a15 a16) (fun q _ => q ≤ 4)
    (fun n t _ => pk_le 0 0 (fun _ => ⟨pk_in i 4 hi, nm_e (lj_rest (fun r b14 => nm_e ⟨pk_in i 4 hi, nm_e (lj_d83 (fun b13 => hJ _ b13 b14))⟩))⟩) (fun z => absurd z (by omega)))
    (fun n q t hq hw => pk_le (q + 1) 0 (fun z => absurd z (by omega)) (fun _ => ⟨pk_in q 5 (by omega) (nI_pred q), pk_in (q + 1) 5 (by omega), nm_e (nm_r (pk_m1 q) (hw _ (by omega)))⟩) rfl rfl (by omega) (by omega)) 4 a13 (by omega)⟩
theorem lj_d22 (hp : ∀ b12 b13 b14, post (fl, fs, fj, fk, a1, a2, a3, a4, a5, a6, a7, a8, a9, a10, a11, b12, b13, b14, a15, a16)) : ∃ n, wX_divide_22 post n 3 fl fs fj fk a1 a2 a3 a4 a5 a6 a7 a8 a9 a10 a11 a12 a13 a14 a15 a16 := by
  have h := pk_loopD (σ := (Nat → Int64) × (Nat → Int64) × (Nat → Int64)) (fun n q t => wX_divide_22 post n (nI q + (-1)) fl fs fj fk a1 a2 a3 a4 a5 a6 a7 a8 a9 a10 a11 t.1 t.2.1 t.2.2 a15 a16) (fun q _ => q ≤ 4)
    (fun n t _ => br_t (by decide) (hp t.1 t.2.1 t.2.2))
    (fun n q t hq hw => by
      show wX_divide_22 post (n + 1) (nI (q + 1) + (-1)) fl fs fj fk a1 a2 a3 a4 a5 a6 a7 a8 a9 a10 a11 t.1 t.2.1 t.2.2 a15 a16
      rw [pk_m1]
      exact pk_lt q 0 (fun z => absurd z (by omega)) (fun _ => lj_d28 (by omega) (fun b12 b13 b14 => hw (b12, b13, b14) (by omega)))) 4 (a12, a13, a14) (by omega)
  exact ⟨5, h⟩
theorem lj_divide (hp : ∀ b12 b13 b14, post (fl, fs, fj, fk, a1, a2, a3, a4, a5, a6, a7, a8, a9, a10, a11, b12, b13, b14, a15, a16)) : wpX_divide post (fl, fs, fj, fk, a1, a2, a3, a4, a5, a6, a7, a8, a9, a10, a11, a12, a13, a14, a15, a16) :=
  pk_loop (σ := (Nat → Int64)) (fun n i t => wX_divide_2 post fl fs fj fk n (nI i) a1 a2 a3 a4 a5 a6 a7 a8 a9 a10 a11 a12 t a14 a15 a16) (fun _ _ => True) 5 0 a13 (by omega) trivial
    (fun n t _ => pk_le 5 5 (fun _ => lj_d22 hp) (fun z => absurd z (by omega)))
    (fun n i t hi _ hw => pk_le 5 i (fun z => absurd z (by omega)) (fun _ => ⟨pk_in i 5 hi, nm_e (nm_r (nI_1 i) (hw _ trivial))⟩))
end
end
section
section
variable {post : St1 → Prop} {fl fs fj fk : Int32} {a1 a2 a3 : Nat → Int32} {a4 a5 a6 a7 a8 a9 a10 a11 a12 a13 a14 a15 a16 : Nat → Int64}
theorem lj_fill {f : Nat → Int64} {i q : Nat} (hq : q = i) (h : ∀ j, j < i → f j = 0) : ∀ j, j < i + 1 → vp_updL f q 0 j = 0 := by
  intro j hj
  subst hq
  by_cases e : j = q
  · rw [e, pk_uLs]
  · rw [pk_uLn e]
    exact h j (by omega)
theorem lj_ipany {P : Int64 → Prop} {x : Int32} (h : ∀ v, P v) : wpX_indexPlane P () x :=
  br_c (fun _ => h _) (fun _ => br_c (fun _ => h _) (fun _ => br_c (fun _ => h _) (fun _ => br_c (fun _ => h _) (fun _ => br_c (fun _ => h _) (fun _ => br_c (fun _ => h _) (fun _ => br_c (fun _ => h _) (fun _ => trivial)))))))
theorem lj_r124 (hp : ∀ b8 b9, (∀ i, i < 12 → b9 i = 0) → post (fl, fs, fj, fk, a1, a2, a3, a4, a5, a6, a7, b8, b9, a10, a11, a12, a13, a14, a15, a16)) : ∃ n, wX_reset_124 post fl fs fj fk n 0 a1 a2 a3 a4 a5 a6 a7 a8 a9 a10 a11 a12 a13 a14 a15 a16 :=
  pk_loop (σ := (Nat → Int64) × (Nat → Int64)) (fun n i t => wX_reset_124 post fl fs fj fk n (nI i) a1 a2 a3 a4 a5 a6 a7 t.1 t.2 a10 a11 a12 a13 a14 a15 a16) (fun i t => ∀ q, q < i → t.2 q = 0) 12 0 (a8, a9) (by omega) (fun q hq => absurd hq (by omega))
    (fun n t ht => pk_le 12 12 (fun _ => hp t.1 t.2 ht) (fun z => absurd z (by omega)))
    (fun n i t hi ht hw => pk_le 12 i (fun z => absurd z (by omega)) (fun _ => ⟨pk_in i 12 hi, nm_e ⟨pk_in i 12 hi, nm_e (nm_r (nI_1 i) (hw (_, _) (lj_fill (nI_clamp (by omega)) ht)))⟩⟩))
theorem lj_r97 (hp : ∀ b6 b7 b8 b9, (∀ i, i < 4 → b7 i = 0) → (∀ i, i < 12 → b9 i = 0) → post (fl, fs, fj, fk, a1, a2, a3, a4, a5, b6, b7, b8, b9, a10, a11, a12, a13, a14, a15, a16)) : ∃ n, wX_reset_97 post fl fs fj fk n 0 a1 a2 a3 a4 a5 a6 a7 a8 a9 a10 a11 a12 a13 a14 a15 a16 :=
  pk_loop (σ := (Nat → Int64) × (Nat → Int64)) (fun n i t => wX_reset_97 post fl fs fj fk n (nI i) a1 a2 a3 a4 a5 t.1 t.2 a8 a9 a10 a11 a12 a13 a14 a15 a16) (fun i t => ∀ q, q < i → t.2 q = 0) 4 0 (a6, a7) (by omega) (fun q hq => absurd hq (by omega))
    (fun n t ht => pk_le 4 4 (fun _ => lj_r124 (fun b8 b9 h9 => hp t.1 t.2 b8 b9 ht h9)) (fun z => absurd z (by omega)))
    (fun n i t hi ht hw => pk_le 4 i (fun z => absurd z (by omega)) (fun _ => ⟨pk_in i 4 hi, nm_e ⟨pk_in i 4 hi, nm_e (nm_r (nI_1 i) (hw (_, _) (lj_fill (nI_clamp (by omega)) ht)))⟩⟩))
theorem lj_r76 (hp : ∀ b5 b6 b7 b8 b9, (∀ i, i < 6 → b5 i = 0) → (∀ i, i < 4 → b7 i = 0) → (∀ i, i < 12 → b9 i = 0) → post (fl, fs, fj, fk, a1, a2, a3, a4, b5, b6, b7, b8, b9, a10, a11, a12, a13, a14, a15, a16)) : ∃ n, wX_reset_76 post fl fs fj fk n 0 a1 a2 a3 a4 a5 a6 a7 a8 a9 a10 a11 a12 a13 a14 a15 a16 :=
  pk_loop (σ := (Nat → Int64)) (fun n i t => wX_reset_76 post fl fs fj fk n (nI i) a1 a2 a3 a4 t a6 a7 a8 a9 a10 a11 a12 a13 a14 a15 a16) (fun i t => ∀ q, q < i → t q = 0) 6 0 a5 (by omega) (fun q hq => absurd hq (by omega))
    (fun n t ht => pk_le 6 6 (fun _ => lj_r97 (fun b6 b7 b8 b9 h7 h9 => hp t b6 b7 b8 b9 ht h7 h9)) (fun z => absurd z (by omega)))
    (fun n i t hi ht hw => pk_le 6 i (fun z => absurd z (by omega)) (fun _ => ⟨pk_in i 6 hi, nm_e (nm_r (nI_1 i) (hw _ (lj_fill (nI_clamp (by omega)) ht)))⟩))
theorem lj_r55 (hp : ∀ b4 b5 b6 b7 b8 b9, (∀ i, i < 6 → b5 i = 0) → (∀ i, i < 4 → b7 i = 0) → (∀ i, i < 12 → b9 i = 0) → post (fl, fs, fj, fk, a1, a2, a3, b4, b5, b6, b7, b8, b9, a10, a11, a12, a13, a14, a15, a16)) : ∃ n, wX_reset_55 post fl fs fj fk n 8 a1 a2 a3 a4 a5 a6 a7 a8 a9 a10 a11 a12 a13 a14 a15 a16 :=
  pk_loop (σ := (Nat → Int64)) (fun n i t => wX_reset_55 post fl fs fj fk n (nI i) a1 a2 a3 t a5 a6 a7 a8 a9 a10 a11 a12 a13 a14 a15 a16) (fun _ _ => True) 16 8 a4 (by omega) trivial
    (fun n t _ => pk_le 16 16 (fun _ => lj_r76 (fun b5 b6 b7 b8 b9 => hp t b5 b6 b7 b8 b9)) (fun z => absurd z (by omega)))
    (fun n i t hi _ hw => pk_le 16 i (fun z => absurd z (by omega)) (fun _ => ⟨pk_in i 16 hi, nm_e (nm_r (nI_1 i) (hw _ trivial))⟩))
theorem lj_reset (hp : ∀ b4 b5 b6 b7 b8 b9, (∀ i, i < 6 → b5 i = 0) → (∀ i, i < 4 → b7 i = 0) → (∀ i, i < 12 → b9 i = 0) → post (fl, fs, fj, fk, a1, a2, a3, b4, b5, b6, b7, b8, b9, a10, a11, a12, a13, a14, a15, a16)) : wpX_reset post (fl, fs, fj, fk, a1, a2, a3, a4, a5, a6, a7, a8, a9, a10, a11, a12, a13, a14, a15, a16) :=
  pk_loop (σ := (Nat → Int64)) (fun n i t => wX_reset_2 post fl fs fj fk n (nI i) a1 a2 a3 t a5 a6 a7 a8 a9 a10 a11 a12 a13 a14 a15 a16) (fun _ _ => True) 3 0 a4 (by omega) trivial
    (fun n t _ => pk_le 3 3 (fun _ => nm_e (nm_e (lj_r55 hp))) (fun z => absurd z (by omega)))
    (fun n i t hi _ hw => pk_le 3 i (fun z => absurd z (by omega)) (fun _ => lj_ipany (fun v => ⟨pk_in i 16 (by omega), nm_e (lj_ipany (fun v' => ⟨pk_in (4 + i) 16 (by omega) (nI_add 4 i), nm_e (nm_r (nI_1 i) (hw _ trivial))⟩))⟩)))
theorem lj_settle {x : Int64} {f p : Int32} {g : Nat} (hf : f = nI g) (hg : g < 4) (hp : ∀ b6, post (fl, fs, fj, fk, a1, a2, a3, a4, a5, b6, vp_updL a7 g (a7 g ||| x), a8, a9, a10, a11, a12, a13, a14, a15, a16)) : wpX_settle post (fl, fs, fj, fk, a1, a2, a3, a4, a5, a6, a7, a8, a9, a10, a11, a12, a13, a14, a15, a16) x f p := by
  subst hf
  have hc : (nI g).toNatClampNeg = g := nI_clamp (by omega)
  refine ⟨pk_in g 4 hg, pk_in g 4 hg, nm_r (by rw [hc]) ?_⟩
  exact pk_loop (σ := (Nat → Int64)) (fun n i t => wX_settle_13 post x p fl fs fj fk n (nI i) a1 a2 a3 a4 a5 t (vp_updL a7 g (a7 g ||| x)) a8 a9 a10 a11 a12 a13 a14 a15 a16) (fun _ _ => True) 4 0 a6 (by omega) trivial
    (fun n t _ => pk_le 4 4 (fun _ => hp t) (fun z => absurd z (by omega)))
    (fun n i t hi _ hw => pk_le 4 i (fun z => absurd z (by omega)) (fun _ => br_c (fun _ => nm_r (nI_1 i) (hw _ trivial)) (fun _ => ⟨pk_in i 4 hi, pk_in i 4 hi, nm_e (nm_r (nI_1 i) (hw _ trivial))⟩)))
/-- the lanes x went from loc to loc' -/
def lj_mv (x : Int64) (loc loc' : Nat → Nat) : Prop := ∀ k, k < 64 → (lj_b x k = true → loc' k ≠ 16) ∧ (lj_b x k = false → loc' k = loc k)
def lj_in (x : Int64) (loc : Nat → Nat) : Prop := ∀ k, k < 64 → lj_b x k = true → loc k = 16
theorem lj_mvT {x : Int64} {loc loc' : Nat → Nat} {q : Nat} (h : lj_to x q loc loc') (hq : q ≠ 16) : lj_mv x loc loc' :=
  fun k hk => ⟨fun z => by rw [(h k hk).1 z]; exact hq, (h k hk).2⟩
theorem lj_setL {x : Int64} {f p : Int32} {g sz : Nat} {loc : Nat → Nat} (hf : f = nI g) (hg : g < 4) (hat : lj_at sz a9 a7 loc) (hx : lj_in x loc)
    (hp : ∀ b6 b7 loc', lj_at sz a9 b7 loc' → lj_mv x loc loc' → (∀ k, k < 64 → lj_b x k = true → loc' k = 12 + g) → post (fl, fs, fj, fk, a1, a2, a3, a4, a5, b6, b7, a8, a9, a10, a11, a12, a13, a14, a15, a16)) : wpX_settle post (fl, fs, fj, fk, a1, a2, a3, a4, a5, a6, a7, a8, a9, a10, a11, a12, a13, a14, a15, a16) x f p :=
  lj_settle hf hg (fun b6 => hp b6 _ _ (lj_atF hat hg x hx (lj_to_i x (12 + g) loc)) (lj_mvT (lj_to_i x (12 + g) loc) (by omega)) (fun k hk hb => (lj_to_i x (12 + g) loc k hk).1 hb))
theorem lj_sendL {x : Int64} {p : Int32} {q sz : Nat} {loc : Nat → Nat} (hq : p = nI q) (hq2 : q < 2 ^ 31) (hs : fs = nI sz) (hsz : sz ≤ 12) (hat : lj_at sz a9 a7 loc) (hx : lj_in x loc)
    (hp : ∀ b6 b7 b9 loc', lj_at sz b9 b7 loc' → lj_mv x loc loc' → post (fl, fs, fj, fk, a1, a2, a3, a4, a5, b6, b7, a8, b9, a10, a11, a12, a13, a14, a15, a16)) : wpX_send post (fl, fs, fj, fk, a1, a2, a3, a4, a5, a6, a7, a8, a9, a10, a11, a12, a13, a14, a15, a16) x p := by
  subst hq hs
  unfold wpX_send
  refine pk_lt q sz (fun h => ?_) (fun h => ?_)
  · have hc : (nI q).toNatClampNeg = q := nI_clamp hq2
    exact ⟨pk_in q 12 (by omega), pk_in q 12 (by omega), nm_r (by rw [hc]) (hp a6 a7 _ _ (lj_atW hat h hsz x hx (lj_to_i x q loc)) (lj_mvT (lj_to_i x q loc) (by omega)))⟩
  · exact lj_setL (g := 0) rfl (by omega) hat hx (fun b6 b7 loc' h1 h2 _ => hp b6 b7 a9 loc' h1 h2)
theorem lj_least {P : Int32 → Prop} {sz : Nat} (hs : fs = nI sz) (hsz : sz ≤ 12) (h1 : ∀ p, p < sz → ¬ a9 p = 0 → P (nI p)) (h2 : (∀ p, p < sz → a9 p = 0) → P (-1)) : wpX_leastWaiting P (fl, fs, fj, fk, a1, a2, a3, a4, a5, a6, a7, a8, a9, a10, a11, a12, a13, a14, a15, a16) := by
  subst hs
  exact pk_loop (σ := Unit) (fun n i _ => wX_leastWaiting_2 P fl (nI sz) fj fk a1 a2 a3 a4 a5 a6 a7 a8 a9 a10 a11 a12 a13 a14 a15 a16 n (nI i)) (fun i _ => ∀ p, p < i → a9 p = 0) sz 0 () (by omega) (fun q hq => absurd hq (by omega))
    (fun n _ h => pk_le sz sz (fun _ => h2 h) (fun z => absurd z (by omega)))
    (fun n i _ hi h hw => pk_le sz i (fun z => absurd z (by omega)) (fun _ => by
      have hc : (nI i).toNatClampNeg = i := nI_clamp (by omega)
      refine ⟨pk_in i 12 (by omega), ?_⟩
      rw [hc]
      exact br_c (fun e => nm_r (nI_1 i) (hw () (lt_s h e))) (fun e => h1 i hi e)))
theorem lj_atLimit {P : Int64 → Prop} {lim : Nat} (hl : fl = nI lim) (hlim : lim ≤ 40) (hp : ∀ y, (∀ k, k < 64 → lj_b y k = decide (lj_st a5 k 6 = lim)) → P y) : wpX_atLimit P (fl, fs, fj, fk, a1, a2, a3, a4, a5, a6, a7, a8, a9, a10, a11, a12, a13, a14, a15, a16) := by
  subst hl
  refine pk_loop (σ := Int64) (fun n i t => wX_atLimit_6 P (nI lim) fs fj fk a1 a2 a3 a4 a5 a6 a7 a8 a9 a10 a11 a12 a13 a14 a15 a16 n t (nI i)) (fun i t => ∀ k, k < 64 → lj_b t k = decide (lj_st a5 k i = lim % 2 ^ i)) 6 0 (-1) (by omega) (fun k hk => ?_)
    (fun n t ht => pk_le 6 6 (fun _ => hp t (fun k hk => ?_)) (fun z => absurd z (by omega)))
    (fun n i t hi ht hw => pk_le 6 i (fun z => absurd z (by omega)) (fun _ => ?_))
  · rw [lj_m1 k hk]
    show true = decide (0 = lim % 1)
    rw [Nat.mod_one]
    rfl
  · rw [ht k hk, Nat.mod_eq_of_lt (by omega)]
  · have hc : (nI i).toNatClampNeg = i := nI_clamp (by omega)
    refine ek_if (lj_limbit lim (by omega) i hi) (fun h => ?_) (fun h => ?_)
    · exact br_t rfl ⟨pk_in i 6 hi, nm_r (by rw [hc]) (nm_r (nI_1 i) (hw _ (fun k hk => (lj_lim_up hk (ht k hk)).1 h)))⟩
    · exact br_f (by decide) ⟨pk_in i 6 hi, nm_r (by rw [hc]) (nm_r (nI_1 i) (hw _ (fun k hk => (lj_lim_up hk (ht k hk)).2 h)))⟩
theorem lj_countStep {x : Int64} (hp : ∀ b5, (∀ k, lj_st a5 k 6 + (lj_b x k).toNat < 64 → lj_st b5 k 6 = lj_st a5 k 6 + (lj_b x k).toNat) → post (fl, fs, fj, fk, a1, a2, a3, a4, b5, a6, a7, a8, a9, a10, a11, a12, a13, a14, a15, a16)) : wpX_countStep post (fl, fs, fj, fk, a1, a2, a3, a4, a5, a6, a7, a8, a9, a10, a11, a12, a13, a14, a15, a16) x := by
  refine pk_loop (σ := Int64 × (Nat → Int64)) (fun n i t => wX_countStep_5 post fl fs fj fk n t.1 (nI i) a1 a2 a3 a4 t.2 a6 a7 a8 a9 a10 a11 a12 a13 a14 a15 a16) (fun i t => (∀ q, i ≤ q → t.2 q = a5 q) ∧ ∀ k, lj_st t.2 k i + (lj_b t.1 k).toNat * 2 ^ i = lj_st a5 k i + (lj_b x k).toNat) 6 0 (x, a5) (by omega) ⟨fun _ _ => rfl, fun k => ?_⟩
    (fun n t ht => pk_le 6 6 (fun _ => hp t.2 (fun k hk => ?_)) (fun z => absurd z (by omega)))
    (fun n i t hi ht hw => pk_le 6 i (fun z => absurd z (by omega)) (fun _ => ?_))
  · show 0 + (lj_b x k).toNat * 1 = 0 + (lj_b x k).toNat
    omega
  · have h := ht.2 k
    have h1 : lj_st t.2 k 6 < 2 ^ 6 := lj_st_lt t.2 k 6
    cases hb : lj_b t.1 k with
    | false =>
      rw [hb] at h
      have h : lj_st t.2 k 6 + 0 * 2 ^ 6 = lj_st a5 k 6 + (lj_b x k).toNat := h
      omega
    | true =>
      rw [hb] at h
      have h : lj_st t.2 k 6 + 1 * 2 ^ 6 = lj_st a5 k 6 + (lj_b x k).toNat := h
      omega
  · have hc : (nI i).toNatClampNeg = i := nI_clamp (by omega)
    refine ⟨pk_in i 6 hi, nm_r (by rw [hc]) ⟨pk_in i 6 hi, pk_in i 6 hi, nm_r (by rw [hc]) (nm_r (nI_1 i) (hw (_, _) ⟨fun q hq => ?_, fun k => ?_⟩))⟩⟩
    · dsimp only
      rw [pk_uLn (by omega)]
      exact ht.1 q (by omega)
    · dsimp only
      exact lj_st_up (ht.2 k) (ht.1 i (Nat.le_refl i))
/-! two moves, one behind the other -/
theorem lj_in2 {x t : Int64} {loc loc1 : Nat → Nat} (hx : lj_in x loc) (hm : lj_mv (x &&& t) loc loc1) : lj_in (x &&& ((x &&& t) ^^^ (-1))) loc1 := by
  intro k hk hb
  rw [lj_and, lj_not _ hk] at hb
  have h1 : lj_b x k = true := by cases h : lj_b x k <;> simp_all
  have h2 : lj_b (x &&& t) k = false := by cases h : lj_b (x &&& t) k <;> simp_all
  rw [(hm k hk).2 h2]
  exact hx k hk h1
theorem lj_in3 {x t : Int64} {loc loc1 : Nat → Nat} (hx : lj_in x loc) (hm : lj_mv (x &&& ((x &&& t) ^^^ (-1))) loc loc1) : lj_in (x &&& t) loc1 := by
  intro k hk hb
  have h1 : lj_b x k = true := by rw [lj_and] at hb; cases h : lj_b x k <;> simp_all
  have h2 : lj_b (x &&& ((x &&& t) ^^^ (-1))) k = false := by rw [lj_and, lj_not _ hk, hb, Bool.not_true, Bool.and_false]
  rw [(hm k hk).2 h2]
  exact hx k hk h1
theorem lj_inA {x t : Int64} {loc : Nat → Nat} (hx : lj_in x loc) : lj_in (x &&& t) loc := by
  intro k hk hb
  have h1 : lj_b x k = true := by rw [lj_and] at hb; cases h : lj_b x k <;> simp_all
  exact hx k hk h1
theorem lj_mv2 {x t : Int64} {loc loc1 loc2 : Nat → Nat} (h1 : lj_mv (x &&& t) loc loc1) (h2 : lj_mv (x &&& ((x &&& t) ^^^ (-1))) loc1 loc2) : lj_mv x loc loc2 := by
  intro k hk
  have e1 := h1 k hk
  have e2 := h2 k hk
  rw [lj_and, lj_not _ hk, lj_and] at e2
  rw [lj_and] at e1
  cases hx : lj_b x k <;> cases ht : lj_b t k <;> rw [hx, ht] at e1 e2 <;> simp_all
theorem lj_mv3 {x t : Int64} {loc loc1 loc2 : Nat → Nat} (h1 : lj_mv (x &&& ((x &&& t) ^^^ (-1))) loc loc1) (h2 : lj_mv (x &&& t) loc1 loc2) : lj_mv x loc loc2 := by
  intro k hk
  have e1 := h1 k hk
  have e2 := h2 k hk
  rw [lj_and, lj_not _ hk, lj_and] at e1
  rw [lj_and] at e2
  cases hx : lj_b x k <;> cases ht : lj_b t k <;> rw [hx, ht] at e1 e2 <;> simp_all
theorem lj_carry {x : Int64} {pc : Int32} {p sz : Nat} {loc : Nat → Nat} (hpc : pc = nI p) (hpz : p < sz) (hs : fs = nI sz) (hsz : sz ≤ 12) (hrow : ∃ a b : Nat, a2 p = nI a ∧ a ≤ 3 ∧ a3 p = nI b ∧ b ≤ 15) (hat : lj_at sz a9 a7 loc) (hx : lj_in x loc)
    (hp : ∀ b4 b6 b7 b9 b10 b11 b12 b13 b14 loc', lj_at sz b9 b7 loc' → lj_mv x loc loc' → post (fl, fs, fj, fk, a1, a2, a3, b4, a5, b6, b7, a8, b9, b10, b11, b12, b13, b14, a15, a16)) : wpX_carry post (fl, fs, fj, fk, a1, a2, a3, a4, a5, a6, a7, a8, a9, a10, a11, a12, a13, a14, a15, a16) pc x := by
  subst hpc
  obtain ⟨a, b, ea, ha, eb, hb⟩ := hrow
  have hc : (nI p).toNatClampNeg = p := nI_clamp (by omega)
  have h12 : vp_in (nI p) 12 := pk_in p 12 (by omega)
  have ea' : a2 (nI p).toNatClampNeg = nI a := by rw [hc]; exact ea
  have eb' : a3 (nI p).toNatClampNeg = nI b := by rw [hc]; exact eb
  obtain ⟨m, hm, em⟩ := pk_andE (a3 (nI p).toNatClampNeg) (m := 3) 2 (by decide)
  unfold wpX_carry
  refine ⟨h12, nm_e ⟨h12, h12, lj_load ea' ha em (by omega) (fun b10 b11 => ?_)⟩⟩
  refine br_c (fun _ => ?_) (fun _ => br_c (fun _ => ?_) (fun _ => br_c (fun _ => ?_) (fun _ => br_c (fun _ => ?_) (fun _ => ?_))))
  · exact lj_setL (g := 0) rfl (by omega) hat hx (fun b6 b7 loc' h1 h2 _ => hp a4 b6 b7 a9 b10 b11 a12 a13 a14 loc' h1 h2)
  · refine nm_e ⟨h12, lj_sendL eb' (by omega) hs hsz hat (lj_inA hx) (fun b6 b7 b9 loc1 h1 m1 => ?_)⟩
    exact lj_sendL (nI_1 p) (by omega) hs hsz h1 (lj_in2 hx m1) (fun b6' b7' b9' loc2 h2 m2 => hp a4 b6' b7' b9' b10 b11 a12 a13 a14 loc2 h2 (lj_mv2 m1 m2))
  · refine nm_e (lj_setL (g := 3) rfl (by omega) hat (lj_inA hx) (fun b6 b7 loc1 h1 m1 _ => ?_))
    exact lj_sendL (nI_1 p) (by omega) hs hsz h1 (lj_in3 hx m1) (fun b6' b7' b9' loc2 h2 m2 => hp a4 b6' b7' b9' b10 b11 a12 a13 a14 loc2 h2 (lj_mv3 m1 m2))
  · refine nm_e (lj_setL (g := 2) rfl (by omega) hat (lj_inA hx) (fun b6 b7 loc1 h1 m1 _ => ?_))
    refine lj_divide (fun b12 b13 b14 => ⟨h12, lj_store ea' ha (fun b4 => ?_)⟩)
    exact lj_sendL (nI_1 p) (by omega) hs hsz h1 (lj_in3 hx m1) (fun b6' b7' b9' loc2 h2 m2 => hp b4 b6' b7' b9' b10 b11 b12 b13 b14 loc2 h2 (lj_mv3 m1 m2))
  · refine ⟨h12, lj_compute (fun b12 => ⟨h12, lj_store ea' ha (fun b4 => ?_)⟩)⟩
    exact lj_sendL (nI_1 p) (by omega) hs hsz hat hx (fun b6' b7' b9' loc2 h2 m2 => hp b4 b6' b7' b9' b10 b11 b12 a13 a14 loc2 h2 m2)
end
end
section
/-! a round makes the measure less -/
def lj_mu (lim : Nat) (st loc : Nat → Nat) (k : Nat) : Nat := if 12 ≤ loc k then 0 else lim - st k + 1
theorem lj_round {lim p : Nat} {st st' loc loc' : Nat → Nat} (hp : p < 12) (hst : ∀ k, k < 64 → st k ≤ lim) (h16 : ∀ k, k < 64 → loc k ≠ 16) (hex : ∃ k, k < 64 ∧ loc k = p)
    (h : ∀ k, k < 64 → (loc k = p → st k = lim → loc' k = 13 ∧ st' k = st k) ∧ (loc k = p → st k ≠ lim → loc' k ≠ 16 ∧ st' k = st k + 1) ∧ (loc k ≠ p → loc' k = loc k ∧ st' k = st k)) :
    (∀ k, k < 64 → st' k ≤ lim) ∧ (∀ k, k < 64 → loc' k ≠ 16) ∧ lj_sum (lj_mu lim st' loc') 64 < lj_sum (lj_mu lim st loc) 64 := by
  have key : ∀ k, k < 64 → st' k ≤ lim ∧ loc' k ≠ 16 ∧ lj_mu lim st' loc' k ≤ lj_mu lim st loc k ∧ (loc k = p → lj_mu lim st' loc' k < lj_mu lim st loc k) := by
    intro k hk
    obtain ⟨h1, h2, h3⟩ := h k hk
    have hs := hst k hk
    have hl := h16 k hk
    unfold lj_mu
    by_cases e : loc k = p
    · by_cases e2 : st k = lim
      · obtain ⟨g1, g2⟩ := h1 e e2
        have i1 : 12 ≤ loc' k := by omega
        have i2 : ¬ 12 ≤ loc k := by omega
        rw [if_pos i1, if_neg i2]
        omega
      · obtain ⟨g1, g2⟩ := h2 e e2
        have i2 : ¬ 12 ≤ loc k := by omega
        rw [if_neg i2]
        by_cases i1 : 12 ≤ loc' k
        · rw [if_pos i1]; omega
        · rw [if_neg i1]; omega
    · obtain ⟨g1, g2⟩ := h3 e
      rw [g1, g2]
      exact ⟨hs, hl, Nat.le_refl _, fun z => absurd z e⟩
  obtain ⟨k, hk, hkp⟩ := hex
  exact ⟨fun k hk => (key k hk).1, fun k hk => (key k hk).2.1, lj_sum_lt 64 (fun k hk => (key k hk).2.2.1) ⟨k, hk, (key k hk).2.2.2 hkp⟩⟩
theorem lj_isDone {lim sz : Nat} {a5 a7 a9 : Nat → Int64} {loc : Nat → Nat} (hlim : lim ≤ 40) (hsz : sz ≤ 12) (hat : lj_at sz a9 a7 loc) (h16 : ∀ k, k < 64 → loc k ≠ 16) (hst : ∀ k, k < 64 → lj_st a5 k 6 ≤ lim) (hz : ∀ p, p < sz → a9 p = 0) : lj_done a5 a7 := by
  refine ⟨fun k => loc k - 12, fun k hk => ?_⟩
  obtain ⟨h1, h2, h3, h4⟩ := hat k hk
  have h5 := h16 k hk
  have h6 : 12 ≤ loc k := by
    rcases h3 with h3 | h3
    · have e := h1 (loc k) (by omega)
      rw [hz _ h3, lj_0, decide_eq_true rfl] at e
      cases e
    · exact h3
  dsimp only
  refine ⟨by omega, fun g hg => ?_, Nat.le_trans (hst k hk) hlim⟩
  rw [h2 g hg]
  exact decide_eq_decide.mpr (by omega)
section
variable {post : St1 → Prop} {fl fs fj fk : Int32} {a1 a2 a3 : Nat → Int32} {a15 a16 : Nat → Int64}
theorem lj_j27 {lim sz : Nat} (hlim : lim ≤ 40) (hsz : sz ≤ 12) (hrow : ∀ p, p < sz → ∃ a b : Nat, a2 p = nI a ∧ a ≤ 3 ∧ a3 p = nI b ∧ b ≤ 15)
    (hp : ∀ b4 b5 b6 b7 b8 b9 b10 b11 b12 b13 b14, lj_done b5 b7 → post (nI lim, nI sz, fj, fk, a1, a2, a3, b4, b5, b6, b7, b8, b9, b10, b11, b12, b13, b14, a15, a16)) :
    ∀ (d r : Nat) (a4 a5 a6 a7 a8 a9 a10 a11 a12 a13 a14 : Nat → Int64) (loc : Nat → Nat), r + d = 2700 → lj_at sz a9 a7 loc → (∀ k, k < 64 → loc k ≠ 16) → (∀ k, k < 64 → lj_st a5 k 6 ≤ lim) → lj_sum (lj_mu lim (fun k => lj_st a5 k 6) loc) 64 + r ≤ 2624 →
      wX_judge_27 post (d + 1) (nI r) (nI lim) (nI sz) fj fk a1 a2 a3 a4 a5 a6 a7 a8 a9 a10 a11 a12 a13 a14 a15 a16 := by
  intro d
  induction d with
  | zero => intro r a4 a5 a6 a7 a8 a9 a10 a11 a12 a13 a14 loc h1 _ _ _ h2; exact absurd h2 (by omega)
  | succ d ih =>
    intro r a4 a5 a6 a7 a8 a9 a10 a11 a12 a13 a14 loc hrd hat h16 hst hM
    refine pk_le 2700 r (fun z => absurd z (by omega)) (fun _ => ?_)
    refine lj_least rfl hsz (fun p hpz hne => ?_) (fun hz => ?_)
    · have hc : (nI p).toNatClampNeg = p := nI_clamp (by omega)
      have h12 : vp_in (nI p) 12 := pk_in p 12 (by omega)
      have hx3 : ∀ k, k < 64 → lj_b (a9 p) k = decide (loc k = p) := fun k hk => (hat k hk).1 p (by omega)
      have hex : ∃ k, k < 64 ∧ loc k = p := by
        obtain ⟨k, hk, hb⟩ := lj_ne0 hne
        rw [hx3 k hk] at hb
        exact ⟨k, hk, of_decide_eq_true hb⟩
      refine br_t (nI_pos' (by omega)) ⟨h12, nm_r (by rw [hc] : a9 (nI p).toNatClampNeg = a9 p) ⟨h12, nm_r (by rw [hc] : vp_updL a9 (nI p).toNatClampNeg 0 = vp_updL a9 p 0) ?_⟩⟩
      refine lj_atLimit rfl hlim (fun y hy => nm_e ?_)
      have hat1 : lj_at sz (vp_updL a9 p 0) a7 (fun k => if loc k = p then 16 else loc k) := lj_atT hat (by omega) (fun k hk => ⟨fun z => if_pos z, fun z => if_neg z⟩)
      have hin1 : lj_in (a9 p) (fun k => if loc k = p then 16 else loc k) := by
        intro k hk hb
        rw [hx3 k hk] at hb
        exact if_pos (of_decide_eq_true hb)
      refine lj_setL (g := 1) rfl (by omega) hat1 (lj_inA hin1) (fun b6 b7 loc2 hat2 hmv hto => nm_e ?_)
      -- what became of each lane at the settling
      have hl2 : ∀ k, k < 64 → (loc k = p → lj_st a5 k 6 = lim → loc2 k = 13 ∧ lj_b (a9 p &&& ((a9 p &&& y) ^^^ (-1))) k = false) ∧ (loc k = p → lj_st a5 k 6 ≠ lim → loc2 k = 16 ∧ lj_b (a9 p &&& ((a9 p &&& y) ^^^ (-1))) k = true) ∧ (loc k ≠ p → loc2 k = loc k ∧ lj_b (a9 p &&& ((a9 p &&& y) ^^^ (-1))) k = false) := by
        intro k hk
        have e1 := hx3 k hk
        have e2 := hy k hk
        have e3 := hmv k hk
        have e4 := hto k hk
        dsimp only at e3
        rw [lj_and, lj_not _ hk, lj_and]
        rw [lj_and] at e3 e4
        refine ⟨fun g1 g2 => ?_, fun g1 g2 => ?_, fun g1 => ?_⟩
        · rw [decide_eq_true g1] at e1
          rw [decide_eq_true g2] at e2
          rw [e1, e2] at e4 ⊢
          exact ⟨e4 rfl, rfl⟩
        · rw [decide_eq_true g1] at e1
          rw [decide_eq_false g2] at e2
          rw [e1, e2] at e3 ⊢
          rw [if_pos g1] at e3
          exact ⟨e3.2 rfl, rfl⟩
        · rw [decide_eq_false g1] at e1
          rw [e1] at e3 ⊢
          rw [if_neg g1] at e3
          exact ⟨e3.2 rfl, rfl⟩
      generalize a9 p &&& ((a9 p &&& y) ^^^ (-1)) = x at hl2
      refine br_c (fun h0 => ?_) (fun h1 => ?_)
      · have R := lj_round (st' := fun k => lj_st a5 k 6) (loc' := loc2) (p := p) (by omega) hst h16 hex (fun k hk => by
          obtain ⟨g1, g2, g3⟩ := hl2 k hk
          rw [h0, lj_0] at g1 g2 g3
          exact ⟨fun i1 i2 => ⟨(g1 i1 i2).1, rfl⟩, fun i1 i2 => absurd (g2 i1 i2).2 (by decide), fun i1 => ⟨(g3 i1).1, rfl⟩⟩)
        exact nm_r (nI_1 r) (ih (r + 1) a4 a5 b6 b7 a8 _ a10 a11 a12 a13 a14 loc2 (by omega) hat2 R.2.1 hst (by have := R.2.2; omega))
      · refine ⟨h12, h12, nm_e (lj_countStep (fun b5 hb5 => ?_))⟩
        have hin2 : lj_in x loc2 := by
          intro k hk hb
          obtain ⟨g1, g2, g3⟩ := hl2 k hk
          by_cases e : loc k = p
          · by_cases e2 : lj_st a5 k 6 = lim
            · rw [(g1 e e2).2] at hb; cases hb
            · exact (g2 e e2).1
          · rw [(g3 e).2] at hb; cases hb
        refine lj_carry rfl hpz rfl hsz (hrow p hpz) hat2 hin2 (fun b4 b6 b7 b9 b10 b11 b12 b13 b14 loc3 hat3 hmv3 => ?_)
        have R := lj_round (st' := fun k => lj_st b5 k 6) (loc' := loc3) (p := p) (by omega) hst h16 hex (fun k hk => by
          obtain ⟨g1, g2, g3⟩ := hl2 k hk
          have f1 := hb5 k
          have f2 := hmv3 k hk
          have f3 := hst k hk
          refine ⟨fun i1 i2 => ?_, fun i1 i2 => ?_, fun i1 => ?_⟩
          · obtain ⟨q1, q2⟩ := g1 i1 i2
            rw [q2] at f1 f2
            have f1 : lj_st a5 k 6 + 0 < 64 → lj_st b5 k 6 = lj_st a5 k 6 + 0 := f1
            exact ⟨(f2.2 rfl).trans q1, f1 (by omega)⟩
          · obtain ⟨q1, q2⟩ := g2 i1 i2
            rw [q2] at f1 f2
            have f1 : lj_st a5 k 6 + 1 < 64 → lj_st b5 k 6 = lj_st a5 k 6 + 1 := f1
            exact ⟨f2.1 rfl, f1 (by omega)⟩
          · obtain ⟨q1, q2⟩ := g3 i1
            rw [q2] at f1 f2
            have f1 : lj_st a5 k 6 + 0 < 64 → lj_st b5 k 6 = lj_st a5 k 6 + 0 := f1
            exact ⟨(f2.2 rfl).trans q1, f1 (by omega)⟩)
        exact nm_r (nI_1 r) (ih (r + 1) b4 b5 b6 b7 _ b9 b10 b11 b12 b13 b14 loc3 (by omega) hat3 R.2.1 R.1 (by have := R.2.2; omega))
    · exact br_f (by decide) (hp a4 a5 a6 a7 a8 a9 a10 a11 a12 a13 a14 (lj_isDone hlim hsz hat h16 hst hz))
end
section
variable {post : St1 → Prop} {fl fs fj fk : Int32} {a1 a2 a3 : Nat → Int32} {a4 a5 a6 a7 a8 a9 a10 a11 a12 a13 a14 a15 a16 : Nat → Int64}
theorem lj_at0 {sz : Nat} {w f : Nat → Int64} (hw : ∀ i, i < 12 → w i = 0) (hf : ∀ i, i < 4 → f i = 0) : lj_at sz w f (fun _ => 16) := by
  intro k hk
  refine ⟨fun p hp => ?_, fun g hg => ?_, Or.inr (show 12 ≤ 16 by decide), Nat.le_refl 16⟩
  · rw [hw p hp, lj_0]
    exact (decide_eq_false (show ¬ 16 = p by omega)).symm
  · rw [hf g hg, lj_0]
    exact (decide_eq_false (show ¬ 16 = 12 + g by omega)).symm
theorem lj_judge (hP : lj_P fl fs a2 a3) (hJ : lj_J fj a5 a7) (h1 : fj = 1 → lj_done a5 a7 → post (fl, fs, fj, fk, a1, a2, a3, a4, a5, a6, a7, a8, a9, a10, a11, a12, a13, a14, a15, a16)) (h0 : ∀ b4 b5 b6 b7 b8 b9 b10 b11 b12 b13 b14, lj_done b5 b7 → post (fl, fs, 1, fk, a1, a2, a3, b4, b5, b6, b7, b8, b9, b10, b11, b12, b13, b14, a15, a16)) : wpX_judge post (fl, fs, fj, fk, a1, a2, a3, a4, a5, a6, a7, a8, a9, a10, a11, a12, a13, a14, a15, a16) := by
  rcases hJ with e | ⟨e, hd⟩
  · obtain ⟨lim, sz, rfl, hlim, rfl, hsz, hrow⟩ := hP
    unfold wpX_judge
    refine br_t e (lj_reset (fun b4 b5 b6 b7 b8 b9 z5 z7 z9 => ?_))
    refine lj_sendL (q := 0) rfl (by omega) rfl hsz (lj_at0 z9 z7) (fun _ _ _ => rfl) (fun b6' b7' b9' loc hat hmv => ?_)
    have hst : ∀ k, k < 64 → lj_st b5 k 6 ≤ lim := fun k _ => by rw [lj_st_0 6 z5]; exact Nat.zero_le _
    refine ⟨2700 + 1, lj_j27 hlim hsz hrow h0 2700 0 b4 b5 b6' b7' b8 b9' a10 a11 a12 a13 a14 loc (by omega) hat (fun k hk => (hmv k hk).1 (lj_m1 k hk)) hst ?_⟩
    have hM : lj_sum (lj_mu lim (fun k => lj_st b5 k 6) loc) 64 ≤ 64 * 41 := lj_sum_c 64 (fun k _ => by
      unfold lj_mu
      by_cases i : 12 ≤ loc k
      · rw [if_pos i]; omega
      · rw [if_neg i]; omega)
    omega
  · exact br_f (by rw [e]; decide) (h1 e hd)
theorem lj_judged (h : post (fl, fs, 1, fk, a1, a2, a3, a4, a5, a6, a7, a8, a9, a10, a11, a12, a13, a14, a15, a16)) : wpX_judge post (fl, fs, 1, fk, a1, a2, a3, a4, a5, a6, a7, a8, a9, a10, a11, a12, a13, a14, a15, a16) := br_f (by decide) h
theorem lj_judged_of (h : wpX_judge post (fl, fs, 1, fk, a1, a2, a3, a4, a5, a6, a7, a8, a9, a10, a11, a12, a13, a14, a15, a16)) : post (fl, fs, 1, fk, a1, a2, a3, a4, a5, a6, a7, a8, a9, a10, a11, a12, a13, a14, a15, a16) := h.2 (by decide)
/-- judge from any state: one lemma for the methods that ask first -/
theorem lj_judgeA (hP : lj_P fl fs a2 a3) (hJ : lj_J fj a5 a7) (h0 : ∀ b4 b5 b6 b7 b8 b9 b10 b11 b12 b13 b14, lj_done b5 b7 → post (fl, fs, 1, fk, a1, a2, a3, b4, b5, b6, b7, b8, b9, b10, b11, b12, b13, b14, a15, a16)) : wpX_judge post (fl, fs, fj, fk, a1, a2, a3, a4, a5, a6, a7, a8, a9, a10, a11, a12, a13, a14, a15, a16) :=
  lj_judge hP hJ (fun e hd => by subst e; exact h0 _ _ _ _ _ _ _ _ _ _ _ hd) h0
end
end
section
section
variable {P : Int32 → Prop} {post : Int32 → St1 → Prop} {fl fs fj fk : Int32} {a1 a2 a3 : Nat → Int32} {a4 a5 a6 a7 a8 a9 a10 a11 a12 a13 a14 a15 a16 : Nat → Int64}
theorem lj_ones {p : Int64} (h : P (lj_on p)) : wpX_ones P () p := nm_e (nm_e (nm_e h))
theorem lj_lowest {p : Int64} (h : P (lj_lw p)) : wpX_lowest P () p := by
  unfold lj_lw at h
  exact ⟨fun e => by rw [if_pos e] at h; exact h, fun e => by rw [if_neg e] at h; exact nm_e (lj_ones h)⟩
theorem lj_count {f : Nat} (hf : f < 4) (h : post (nI (lj_pp (a7 f))) (fl, fs, 1, fk, a1, a2, a3, a4, a5, a6, a7, a8, a9, a10, a11, a12, a13, a14, a15, a16)) : wpX_count post (fl, fs, 1, fk, a1, a2, a3, a4, a5, a6, a7, a8, a9, a10, a11, a12, a13, a14, a15, a16) (nI f) := by
  have hc : (nI f).toNatClampNeg = f := nI_clamp (by omega)
  unfold wpX_count
  refine pk_lt f 0 (fun z => absurd z (by omega)) (fun _ => pk_le f 3 (fun _ => lj_judged ⟨pk_in f 4 hf, lj_ones ?_⟩) (fun z => absurd z (by omega)))
  rw [hc, lj_on_pop]
  exact h
theorem lj_first {f : Nat} (hf : f < 4) (h : post (lj_lw (a7 f)) (fl, fs, 1, fk, a1, a2, a3, a4, a5, a6, a7, a8, a9, a10, a11, a12, a13, a14, a15, a16)) : wpX_first post (fl, fs, 1, fk, a1, a2, a3, a4, a5, a6, a7, a8, a9, a10, a11, a12, a13, a14, a15, a16) (nI f) := by
  have hc : (nI f).toNatClampNeg = f := nI_clamp (by omega)
  unfold wpX_first
  refine pk_lt f 0 (fun z => absurd z (by omega)) (fun _ => pk_le f 3 (fun _ => lj_judged ⟨pk_in f 4 hf, lj_lowest ?_⟩) (fun z => absurd z (by omega)))
  rw [hc]
  exact h
/-- count asks judge first: from any state it is enough to answer for the judged ones -/
theorem lj_countA {f : Nat} (hf : f < 4) (hP : lj_P fl fs a2 a3) (hJ : lj_J fj a5 a7) (h : ∀ b4 b5 b6 b7 b8 b9 b10 b11 b12 b13 b14, lj_done b5 b7 → wpX_count post (fl, fs, 1, fk, a1, a2, a3, b4, b5, b6, b7, b8, b9, b10, b11, b12, b13, b14, a15, a16) (nI f)) : wpX_count post (fl, fs, fj, fk, a1, a2, a3, a4, a5, a6, a7, a8, a9, a10, a11, a12, a13, a14, a15, a16) (nI f) := by
  unfold wpX_count
  refine pk_lt f 0 (fun z => absurd z (by omega)) (fun h0 => pk_le f 3 (fun h3 => lj_judgeA hP hJ (fun b4 b5 b6 b7 b8 b9 b10 b11 b12 b13 b14 hd => ?_)) (fun z => absurd z (by omega)))
  have g := h b4 b5 b6 b7 b8 b9 b10 b11 b12 b13 b14 hd
  unfold wpX_count at g
  exact lj_judged_of ((g.2 (nI_pos (by omega))).1 (nI_le (b := 3) h3 (by omega)))
/-- a lane's fate -/
def lj_fa (a7 : Nat → Int64) (k f : Nat) : Prop := f < 4 ∧ ∀ g, g < 4 → lj_b (a7 g) k = decide (f = g)
theorem lj_fate {k f : Nat} (hk : k < 64) (hf : lj_fa a7 k f) (h : post (nI f) (fl, fs, 1, fk, a1, a2, a3, a4, a5, a6, a7, a8, a9, a10, a11, a12, a13, a14, a15, a16)) : wpX_fate post (fl, fs, 1, fk, a1, a2, a3, a4, a5, a6, a7, a8, a9, a10, a11, a12, a13, a14, a15, a16) (nI k) := by
  unfold wpX_fate
  refine pk_lt k 0 (fun z => absurd z (by omega)) (fun _ => pk_le k 63 (fun _ => lj_judged ?_) (fun z => absurd z (by omega)))
  refine pk_loop (σ := Int32) (fun n i t => wX_fate_20 post (nI k) fl fs 1 fk a1 a2 a3 a4 a5 a6 a7 a8 a9 a10 a11 a12 a13 a14 a15 a16 n t (nI i)) (fun i t => t = if f < i then nI f else -1) 4 0 (-1) (by omega) (by rw [if_neg (by omega)])
    (fun n t ht => pk_le 4 4 (fun _ => ?_) (fun z => absurd z (by omega)))
    (fun n i t hi ht hw => pk_le 4 i (fun z => absurd z (by omega)) (fun _ => ⟨pk_in i 4 hi, ?_⟩))
  · rw [if_pos hf.1] at ht
    rw [ht]
    exact h
  · have hc : (nI i).toNatClampNeg = i := nI_clamp (by omega)
    rw [hc]
    refine ek_if (lj_bit0 (a7 i) hk) (fun e => nm_r (nI_1 i) (hw _ ?_)) (fun e => nm_r (nI_1 i) (hw _ ?_))
    · rw [hf.2 i hi] at e
      have e' := of_decide_eq_false e
      rw [ht]
      by_cases q : f < i
      · rw [if_pos q, if_pos (by omega)]
      · rw [if_neg q, if_neg (by omega)]
    · rw [hf.2 i hi] at e
      have e' : f = i := by
        by_cases q : f = i
        · exact q
        · exact absurd (decide_eq_false q) e
      rw [if_pos (by omega), e']
theorem lj_steps {k : Nat} (hk : k < 64) (h : post (nI (lj_st a5 k 6)) (fl, fs, 1, fk, a1, a2, a3, a4, a5, a6, a7, a8, a9, a10, a11, a12, a13, a14, a15, a16)) : wpX_steps post (fl, fs, 1, fk, a1, a2, a3, a4, a5, a6, a7, a8, a9, a10, a11, a12, a13, a14, a15, a16) (nI k) := by
  unfold wpX_steps
  refine pk_lt k 0 (fun z => absurd z (by omega)) (fun _ => pk_le k 63 (fun _ => lj_judged ?_) (fun z => absurd z (by omega)))
  refine pk_loop (σ := Int32) (fun n i t => wX_steps_20 post (nI k) fl fs 1 fk a1 a2 a3 a4 a5 a6 a7 a8 a9 a10 a11 a12 a13 a14 a15 a16 n t (nI i)) (fun i t => t = nI (lj_st a5 k i)) 6 0 0 (by omega) rfl
    (fun n t ht => pk_le 6 6 (fun _ => ?_) (fun z => absurd z (by omega)))
    (fun n i t hi ht hw => pk_le 6 i (fun z => absurd z (by omega)) (fun _ => ⟨pk_in i 6 hi, nm_e (nm_r (nI_1 i) (hw _ ?_))⟩))
  · rw [ht]
    exact h
  · have hc : (nI i).toNatClampNeg = i := nI_clamp (by omega)
    rw [hc, lj_bitv (a5 i) hk, lN_i, ht]
    exact lj_stbit i hi _ (lj_st_lt a5 k i) _
/-! a register that is the same for all inputs -/
def lj_C (a4 : Nat → Int64) (i : Nat) : Prop := ∀ q, q < 4 → a4 (i * 4 + q) = 0 ∨ a4 (i * 4 + q) = -1
theorem lj_always {i : Nat} (hi : i < 4) (h : ∀ r, r = -1 ∨ lj_C a4 i → post r (fl, fs, 1, fk, a1, a2, a3, a4, a5, a6, a7, a8, a9, a10, a11, a12, a13, a14, a15, a16)) : wpX_always post (fl, fs, 1, fk, a1, a2, a3, a4, a5, a6, a7, a8, a9, a10, a11, a12, a13, a14, a15, a16) (nI i) := by
  unfold wpX_always
  refine pk_lt i 0 (fun z => absurd z (by omega)) (fun _ => pk_le i 3 (fun _ => lj_judged ?_) (fun z => absurd z (by omega)))
  refine pk_loop (σ := Int32) (fun n q t => wX_always_19 post (nI i) fl fs 1 fk a1 a2 a3 a4 a5 a6 a7 a8 a9 a10 a11 a12 a13 a14 a15 a16 n t (nI q)) (fun q _ => ∀ m, m < q → a4 (i * 4 + m) = 0 ∨ a4 (i * 4 + m) = -1) 4 0 0 (by omega) (fun m hm => absurd hm (by omega))
    (fun n t ht => pk_le 4 4 (fun _ => h t (Or.inr ht)) (fun z => absurd z (by omega)))
    (fun n q t hq ht hw => pk_le 4 q (fun z => absurd z (by omega)) (fun _ => ⟨pk_in (i * 4 + q) 16 (by omega) (lj_ix4 i q), ?_⟩))
  have hc : (nI i * 4 + nI q).toNatClampNeg = i * 4 + q := pk_cl (i * 4 + q) (lj_ix4 i q)
  refine nm_r (by rw [hc] : a4 (nI i * 4 + nI q).toNatClampNeg = a4 (i * 4 + q)) ?_
  refine br_c (fun e => ?_) (fun _ => br_c (fun e => ?_) (fun _ => h _ (Or.inl rfl)))
  · have hn := lt_s ht (Or.inl e)
    exact br_c (fun _ => nm_r (nI_1 q) (hw _ hn)) (fun _ => nm_e (nm_r (nI_1 q) (hw _ hn)))
  · have hn := lt_s ht (Or.inr e)
    exact br_c (fun _ => nm_r (nI_1 q) (hw _ hn)) (fun _ => nm_e (nm_r (nI_1 q) (hw _ hn)))
def lj_ipv : Nat → Int64
  | 0 => -6148914691236517206
  | 1 => -3689348814741910324
  | 2 => -1085102592571150096
  | 3 => -71777214294589696
  | 4 => -281470681808896
  | _ => -4294967296
theorem lj_ip {Q : Int64 → Prop} {b : Nat} (hb : b < 6) (h : Q (lj_ipv b)) : wpX_indexPlane Q () (nI b) := by
  have hc : b = 0 ∨ b = 1 ∨ b = 2 ∨ b = 3 ∨ b = 4 ∨ b = 5 := by omega
  rcases hc with e | e | e | e | e | e <;> subst e
  · exact br_f (by decide) (br_f (by decide) (br_t (by decide) h))
  · exact br_f (by decide) (br_f (by decide) (br_f (by decide) (br_t (by decide) h)))
  · exact br_f (by decide) (br_f (by decide) (br_f (by decide) (br_f (by decide) (br_t (by decide) h))))
  · exact br_f (by decide) (br_f (by decide) (br_f (by decide) (br_f (by decide) (br_f (by decide) (br_t (by decide) h)))))
  · exact br_f (by decide) (br_f (by decide) (br_f (by decide) (br_f (by decide) (br_f (by decide) (br_f (by decide) (br_t (by decide) h))))))
  · exact br_f (by decide) (br_t (by decide) h)
def lj_tp (b : Nat) (x : Int64) : Int64 := x ^^^ ((x.toUInt64 >>> (((1 : Int32) <<< (nI b &&& 31)).toInt64.toUInt64 &&& Int64.toUInt64 63)).toInt64)
theorem lj_tp0 : ∀ b, b < 6 → lj_tp b 0 = 0 := by decide +kernel
theorem lj_tp1 : ∀ b, b < 6 → lj_tp b (-1) &&& (lj_ipv b ^^^ (-1)) = 0 := by decide +kernel
theorem lj_tp2 : ∀ b, b < 6 → lj_tp b (-1) ||| lj_tp b (-1) = lj_tp b (-1) := by decide +kernel
theorem lj_depends {i b : Nat} (hi : i < 4) (hb : b < 6) (h : ∀ r, (lj_C a4 i → r = 0) → post r (fl, fs, 1, fk, a1, a2, a3, a4, a5, a6, a7, a8, a9, a10, a11, a12, a13, a14, a15, a16)) : wpX_depends post (fl, fs, 1, fk, a1, a2, a3, a4, a5, a6, a7, a8, a9, a10, a11, a12, a13, a14, a15, a16) (nI i) (nI b) := by
  unfold wpX_depends
  refine pk_lt i 0 (fun z => absurd z (by omega)) (fun _ => pk_lt 3 i (fun z => absurd z (by omega)) (fun _ => pk_lt b 0 (fun z => absurd z (by omega)) (fun _ => pk_le b 5 (fun _ => lj_judged ?_) (fun z => absurd z (by omega)))))
  refine pk_loop (σ := Int64) (fun n q t => wX_depends_29 post (nI i) (nI b) fl fs 1 fk a1 a2 a3 a4 a5 a6 a7 a8 a9 a10 a11 a12 a13 a14 a15 a16 n t (nI q)) (fun q t => lj_C a4 i → t = 0 ∨ t = lj_tp b (-1)) 4 0 0 (by omega) (fun _ => Or.inl rfl)
    (fun n t ht => pk_le 4 4 (fun _ => lj_ip hb (nm_e (lj_ones (h _ (fun c => ?_))))) (fun z => absurd z (by omega)))
    (fun n q t hq ht hw => pk_le 4 q (fun z => absurd z (by omega)) (fun _ => ⟨pk_in (i * 4 + q) 16 (by omega) (lj_ix4 i q), ?_⟩))
  · rcases ht c with e | e
    · rw [e, Int64.zero_and]
      exact lj_on_0
    · rw [e, lj_tp1 b hb]
      exact lj_on_0
  · have hc : (nI i * 4 + nI q).toNatClampNeg = i * 4 + q := pk_cl (i * 4 + q) (lj_ix4 i q)
    refine nm_r (by rw [hc] : a4 (nI i * 4 + nI q).toNatClampNeg = a4 (i * 4 + q)) (nm_e (nm_r (nI_1 q) (hw _ (fun c => ?_))))
    show t ||| lj_tp b (a4 (i * 4 + q)) = 0 ∨ t ||| lj_tp b (a4 (i * 4 + q)) = lj_tp b (-1)
    rcases c q hq with e | e
    · rw [e, lj_tp0 b hb, Int64.or_zero]
      exact ht c
    · rw [e]
      rcases ht c with e2 | e2
      · rw [e2, Int64.zero_or]
        exact Or.inr rfl
      · rw [e2, lj_tp2 b hb]
        exact Or.inr rfl
/-! lanes -/
theorem lj_l63 (hd : lj_done a5 a7) (h : post 1 (fl, fs, 1, fk, a1, a2, a3, a4, a5, a6, a7, a8, a9, a10, a11, a12, a13, a14, a15, a16)) : ∃ n, wL_lanes_63 post n 1 0 fl fs 1 fk a1 a2 a3 a4 a5 a6 a7 a8 a9 a10 a11 a12 a13 a14 a15 a16 := by
  obtain ⟨fa, hfa⟩ := hd
  refine pk_loop (σ := Unit) (fun n i _ => wL_lanes_63 post n 1 (nI i) fl fs 1 fk a1 a2 a3 a4 a5 a6 a7 a8 a9 a10 a11 a12 a13 a14 a15 a16) (fun _ _ => True) 64 0 () (by omega) trivial
    (fun n _ _ => pk_le 64 64 (fun _ => ⟨rfl, h⟩) (fun z => absurd z (by omega)))
    (fun n k _ hk _ hw => pk_le 64 k (fun z => absurd z (by omega)) (fun _ => ?_))
  obtain ⟨h1, h2, h3⟩ := hfa k hk
  refine lj_steps hk (lj_fate hk ⟨h1, h2⟩ (lj_first h1 ?_))
  have hb : lj_b (a7 (fa k)) k = true := by rw [h2 _ h1]; exact decide_eq_true rfl
  have hne : ¬ a7 (fa k) = 0 := fun e => by rw [e, lj_0] at hb; cases hb
  obtain ⟨m, hm, em, _, hl⟩ := lj_lw_some _ hne
  rw [em]
  have hmk : m ≤ k := by
    rcases Nat.lt_or_ge k m with z | z
    · rw [hl k z] at hb; cases hb
    · exact z
  exact br_f (by decide) (pk_lt (lj_st a5 k 6) 0 (fun z => absurd z (by omega)) (fun _ => pk_lt 40 (lj_st a5 k 6) (fun z => absurd z (by omega)) (fun _ => pk_lt m 0 (fun z => absurd z (by omega)) (fun _ => pk_lt k m (fun z => absurd z (by omega)) (fun _ => nm_r (nI_1 k) (hw () trivial))))))
theorem lj_sum64 (hd : lj_done a5 a7) : lj_sum (fun f => lj_pp (a7 f)) 4 = 64 := by
  obtain ⟨fa, hfa⟩ := hd
  show 0 + lj_sum _ 64 + lj_sum _ 64 + lj_sum _ 64 + lj_sum _ 64 = 64
  rw [Nat.zero_add, lj_sum_add, lj_sum_add, lj_sum_add]
  refine lj_sum_one 64 (fun k hk => ?_)
  obtain ⟨h1, h2, _⟩ := hfa k hk
  dsimp only
  rw [h2 0 (by omega), h2 1 (by omega), h2 2 (by omega), h2 3 (by omega)]
  have hc : fa k = 0 ∨ fa k = 1 ∨ fa k = 2 ∨ fa k = 3 := by omega
  rcases hc with e | e | e | e <;> rw [e] <;> decide
theorem lj_l4 (hd : lj_done a5 a7) (h : post 1 (fl, fs, 1, fk, a1, a2, a3, a4, a5, a6, a7, a8, a9, a10, a11, a12, a13, a14, a15, a16)) : wL_lanes_4 post 5 0 0 fl fs 1 fk a1 a2 a3 a4 a5 a6 a7 a8 a9 a10 a11 a12 a13 a14 a15 a16 := by
  have hd' := hd
  obtain ⟨fa, hfa⟩ := hd'
  refine loop_i (σ := Int32) (fun n i t => wL_lanes_4 post n t (nI i) fl fs 1 fk a1 a2 a3 a4 a5 a6 a7 a8 a9 a10 a11 a12 a13 a14 a15 a16) (fun i t => t = nI (lj_sum (fun f => lj_pp (a7 f)) i)) 4
    (fun n t ht => pk_le 4 4 (fun _ => ?_) (fun z => absurd z (by omega)))
    (fun n f t hf ht hw => pk_le 4 f (fun z => absurd z (by omega)) (fun _ => ?_)) 5 0 0 (by omega) (by omega) rfl
  · rw [lj_sum64 hd] at ht
    exact br_t ht (lj_l63 hd h)
  · refine lj_count hf (lj_first hf ?_)
    refine nm_r (by rw [ht, nI_add] : t + nI (lj_pp (a7 f)) = nI (lj_sum (fun f => lj_pp (a7 f)) f + lj_pp (a7 f))) ?_
    by_cases e : a7 f = 0
    · have e2 : lj_lw (a7 f) = -1 := if_pos e
      rw [e2]
      exact br_t (by decide) (nm_r (nI_1 f) (hw _ rfl))
    · obtain ⟨m, hm, em, hb, _⟩ := lj_lw_some _ e
      rw [em]
      obtain ⟨h1, h2, _⟩ := hfa m hm
      rw [h2 f hf] at hb
      have hff : fa m = f := of_decide_eq_true hb
      refine pk_lt m 0 (fun z => absurd z (by omega)) (fun _ => lj_fate hm ⟨h1, h2⟩ ?_)
      rw [hff]
      exact br_t rfl (nm_r (nI_1 f) (hw _ rfl))
theorem lj_lanes (hP : lj_P fl fs a2 a3) (hJ : lj_J fj a5 a7) (h : ∀ b4 b5 b6 b7 b8 b9 b10 b11 b12 b13 b14, lj_done b5 b7 → post 1 (fl, fs, 1, fk, a1, a2, a3, b4, b5, b6, b7, b8, b9, b10, b11, b12, b13, b14, a15, a16)) : wpL_lanes post (fl, fs, fj, fk, a1, a2, a3, a4, a5, a6, a7, a8, a9, a10, a11, a12, a13, a14, a15, a16) := by
  refine ⟨5, pk_le 4 0 (fun z => absurd z (by omega)) (fun _ => lj_countA (f := 0) (by omega) hP hJ (fun b4 b5 b6 b7 b8 b9 b10 b11 b12 b13 b14 hd => ?_))⟩
  exact (lj_l4 hd (h b4 b5 b6 b7 b8 b9 b10 b11 b12 b13 b14 hd)).2 (by decide)
/-! registers -/
theorem lj_r18 {J : Int32 → Int32 → Int32 → Int32 → Int32 → Int32 → (Nat → Int32) → (Nat → Int32) → (Nat → Int32) → (Nat → Int64) → (Nat → Int64) → (Nat → Int64) → (Nat → Int64) → (Nat → Int64) → (Nat → Int64) → (Nat → Int64) → (Nat → Int64) → (Nat → Int64) → (Nat → Int64) → (Nat → Int64) → (Nat → Int64) → (Nat → Int64) → Prop} {i : Nat} {r : Int32} (hi : i < 4) (hr : r = -1 ∨ lj_C a4 i) (hJ : J 1 (nI (i + 1)) fl fs 1 fk a1 a2 a3 a4 a5 a6 a7 a8 a9 a10 a11 a12 a13 a14 a15 a16) : ∃ n, wL_registers_18 post J (nI i) r n 1 0 fl fs 1 fk a1 a2 a3 a4 a5 a6 a7 a8 a9 a10 a11 a12 a13 a14 a15 a16 :=
  pk_loop (σ := Unit) (fun n b _ => wL_registers_18 post J (nI i) r n 1 (nI b) fl fs 1 fk a1 a2 a3 a4 a5 a6 a7 a8 a9 a10 a11 a12 a13 a14 a15 a16) (fun _ _ => True) 6 0 () (by omega) trivial
    (fun n _ _ => pk_le 6 6 (fun _ => nm_r (nI_1 i) hJ) (fun z => absurd z (by omega)))
    (fun n b _ hb _ hw => pk_le 6 b (fun z => absurd z (by omega)) (fun _ => lj_depends hi hb (fun d hd => br_f (by decide) (br_c (fun _ => nm_r (nI_1 b) (hw () trivial)) (fun e => br_t (hd (hr.resolve_left e)) (nm_r (nI_1 b) (hw () trivial)))))))
theorem lj_registers (h : post 1 (fl, fs, 1, fk, a1, a2, a3, a4, a5, a6, a7, a8, a9, a10, a11, a12, a13, a14, a15, a16)) : wpL_registers post (fl, fs, 1, fk, a1, a2, a3, a4, a5, a6, a7, a8, a9, a10, a11, a12, a13, a14, a15, a16) :=
  pk_loop (σ := Unit) (fun n i _ => wL_registers_4 post n 1 (nI i) fl fs 1 fk a1 a2 a3 a4 a5 a6 a7 a8 a9 a10 a11 a12 a13 a14 a15 a16) (fun _ _ => True) 4 0 () (by omega) trivial
    (fun n _ _ => pk_le 4 4 (fun _ => ⟨rfl, h⟩) (fun z => absurd z (by omega)))
    (fun n i _ hi _ hw => pk_le 4 i (fun z => absurd z (by omega)) (fun _ => lj_always hi (fun r hr => lj_r18 hi hr (hw () trivial))))
end
end
section
section
variable {P : Int32 → Prop} {post : St1 → Prop} {postR : Int32 → St1 → Prop} {postL : Int64 → St1 → Prop} {fl fs fj fk : Int32} {a1 a2 a3 : Nat → Int32} {a4 a5 a6 a7 a8 a9 a10 a11 a12 a13 a14 a15 a16 : Nat → Int64}
theorem lj_copy {f g : Nat → Int64} {i q : Nat} (hq : q = i) (h : ∀ j, j < i → f j = g j) : ∀ j, j < i + 1 → vp_updL f q (g q) j = g j := by
  intro j hj
  subst hq
  by_cases e : j = q
  · rw [e, pk_uLs]
  · rw [pk_uLn e]
    exact h j (by omega)
theorem lj_keep (hP : lj_P fl fs a2 a3) (hJ : lj_J fj a5 a7) (h : ∀ b4 b5 b6 b7 b8 b9 b10 b11 b12 b13 b14 b15 b16, lj_done b5 b7 → (∀ q, q < 4 → b15 q = b7 q) → (∀ q, q < 4 → b16 q = b4 q) → post (fl, fs, 1, 1, a1, a2, a3, b4, b5, b6, b7, b8, b9, b10, b11, b12, b13, b14, b15, b16)) : wpX_keep post (fl, fs, fj, fk, a1, a2, a3, a4, a5, a6, a7, a8, a9, a10, a11, a12, a13, a14, a15, a16) := by
  unfold wpX_keep
  refine lj_judgeA hP hJ (fun b4 b5 b6 b7 b8 b9 b10 b11 b12 b13 b14 hd => ?_)
  exact pk_loop (σ := (Nat → Int64) × (Nat → Int64)) (fun n i t => wX_keep_11 post fl fs 1 1 n (nI i) a1 a2 a3 b4 b5 b6 b7 b8 b9 b10 b11 b12 b13 b14 t.1 t.2) (fun i t => (∀ q, q < i → t.1 q = b7 q) ∧ (∀ q, q < i → t.2 q = b4 q)) 4 0 (a15, a16) (by omega) ⟨fun q hq => absurd hq (by omega), fun q hq => absurd hq (by omega)⟩
    (fun n t ht => pk_le 4 4 (fun _ => h b4 b5 b6 b7 b8 b9 b10 b11 b12 b13 b14 t.1 t.2 hd ht.1 ht.2) (fun z => absurd z (by omega)))
    (fun n i t hi ht hw => pk_le 4 i (fun z => absurd z (by omega)) (fun _ => ⟨pk_in i 4 hi, pk_in i 4 hi, nm_e ⟨pk_in i 16 (by omega), pk_in i 4 hi, nm_e (nm_r (nI_1 i) (hw (_, _) ⟨lj_copy (nI_clamp (by omega)) ht.1, lj_copy (nI_clamp (by omega)) ht.2⟩))⟩⟩))
/-! agreement with what was just kept -/
theorem lj_xx (x : Int64) : (-1 : Int64) &&& ((x ^^^ x) ^^^ (-1)) = -1 := by
  apply lj_ext
  intro k hk
  rw [lj_and, lj_not _ hk, lj_xor, lj_m1 k hk]
  cases lj_b x k <;> rfl
def lj_ors (f : Nat → Int64) : Nat → Int64
  | 0 => 0
  | n + 1 => lj_ors f n ||| f n
theorem lj_or_all (hd : lj_done a5 a7) : lj_ors a7 4 = -1 := by
  obtain ⟨fa, hfa⟩ := hd
  apply lj_ext
  intro k hk
  obtain ⟨h1, h2, _⟩ := hfa k hk
  show lj_b ((((0 ||| a7 0) ||| a7 1) ||| a7 2) ||| a7 3) k = _
  rw [lj_or, lj_or, lj_or, lj_or, lj_0, h2 0 (by omega), h2 1 (by omega), h2 2 (by omega), h2 3 (by omega), lj_m1 k hk]
  have hc : fa k = 0 ∨ fa k = 1 ∨ fa k = 2 ∨ fa k = 3 := by omega
  rcases hc with e | e | e | e <;> rw [e] <;> decide
theorem lj_agreement (hd : lj_done a5 a7) (h7 : ∀ q, q < 4 → a15 q = a7 q) (h4 : ∀ q, q < 4 → a16 q = a4 q) (h : postL (-1) (fl, fs, 1, fk, a1, a2, a3, a4, a5, a6, a7, a8, a9, a10, a11, a12, a13, a14, a15, a16)) : wpX_agreement postL (fl, fs, 1, fk, a1, a2, a3, a4, a5, a6, a7, a8, a9, a10, a11, a12, a13, a14, a15, a16) := by
  unfold wpX_agreement
  refine lj_judged ?_
  refine pk_loop (σ := Unit) (fun n i _ => wX_agreement_10 postL fl fs 1 fk a1 a2 a3 a4 a5 a6 a7 a8 a9 a10 a11 a12 a13 a14 a15 a16 n (-1) (nI i)) (fun _ _ => True) 4 0 () (by omega) trivial
    (fun n _ _ => pk_le 4 4 (fun _ => ?_) (fun z => absurd z (by omega)))
    (fun n i _ hi _ hw => pk_le 4 i (fun z => absurd z (by omega)) (fun _ => ⟨pk_in i 16 (by omega), pk_in i 4 hi, nm_r ?_ (nm_r (nI_1 i) (hw () trivial))⟩))
  · refine nm_r (e' := lj_ors a7 1) ?_ ?_
    · rw [h7 0 (by omega), Int64.and_self]
      show _ = 0 ||| a7 0
      rw [Int64.zero_or]
      apply lj_ext
      intro k hk
      rw [lj_and, lj_m1 k hk, Bool.and_true]
    · exact pk_loop (σ := Unit) (fun n i _ => wX_agreement_60 postL fl fs 1 fk a1 a2 a3 a4 a5 a6 a7 a8 a9 a10 a11 a12 a13 a14 a15 a16 n (lj_ors a7 i) (nI i)) (fun _ _ => True) 4 1 () (by omega) trivial
        (fun n _ _ => pk_le 4 4 (fun _ => by rw [lj_or_all hd]; exact h) (fun z => absurd z (by omega)))
        (fun n i _ hi _ hw => pk_le 4 i (fun z => absurd z (by omega)) (fun _ => ⟨pk_in i 4 hi, pk_in i 4 hi, nm_r (by rw [nI_clamp (by omega), h7 i hi, Int64.and_self]; rfl) (nm_r (nI_1 i) (hw () trivial))⟩))
  · rw [nI_clamp (by omega), h4 i hi]
    exact lj_xx _
theorem lj_agreeing (hd : lj_done a5 a7) (h7 : ∀ q, q < 4 → a15 q = a7 q) (h4 : ∀ q, q < 4 → a16 q = a4 q) (h : postR 64 (fl, fs, 1, 1, a1, a2, a3, a4, a5, a6, a7, a8, a9, a10, a11, a12, a13, a14, a15, a16)) : wpX_agreeing postR (fl, fs, 1, 1, a1, a2, a3, a4, a5, a6, a7, a8, a9, a10, a11, a12, a13, a14, a15, a16) := by
  unfold wpX_agreeing
  refine br_f (by decide) (lj_agreement hd h7 h4 (lj_ones ?_))
  rw [lj_on_m1]
  exact h
theorem lj_difference (hd : lj_done a5 a7) (h7 : ∀ q, q < 4 → a15 q = a7 q) (h4 : ∀ q, q < 4 → a16 q = a4 q) (h : postR (-1) (fl, fs, 1, 1, a1, a2, a3, a4, a5, a6, a7, a8, a9, a10, a11, a12, a13, a14, a15, a16)) : wpX_difference postR (fl, fs, 1, 1, a1, a2, a3, a4, a5, a6, a7, a8, a9, a10, a11, a12, a13, a14, a15, a16) := by
  unfold wpX_difference
  refine br_f (by decide) (lj_agreement hd h7 h4 (lj_lowest ?_))
  have e : lj_lw ((-1 : Int64) ^^^ (-1)) = -1 := by decide +kernel
  rw [e]
  exact h
/-! the program's changes -/
theorem lj_fault {x y z : Int32} (h0 : (∃ a : Nat, y = nI a ∧ a ≤ 3) → P 0) (hn : ∀ r, ¬ r = 0 → P r) : wpX_faultOf P () x y z := by
  unfold wpX_faultOf
  refine br_c (fun _ => hn _ (by decide)) (fun _ => br_c (fun _ => br_c (fun _ => hn _ (by decide)) (fun g1 => br_c (fun g2 => ?_) (fun _ => hn _ (by decide)))) (fun _ => hn _ (by decide)))
  obtain ⟨a, ha, ea⟩ := nI_of2 (n := 3) (by decide) g1 g2
  have h0' := h0 ⟨a, ea, ha⟩
  have key : ∀ r : Int32, ((r < 0 → P 0) ∧ (¬ r < 0 → ((z < 0 → P (-4)) ∧ (¬ z < 0 → ((z ≤ r → P 0) ∧ (¬ z ≤ r → P (-4))))))) :=
    fun r => br_c (fun _ => h0') (fun _ => br_c (fun _ => hn _ (by decide)) (fun _ => br_c (fun _ => h0') (fun _ => hn _ (by decide))))
  exact br_c (fun _ => key _) (fun _ => br_c (fun _ => key _) (fun _ => br_c (fun _ => key _) (fun _ => key _)))
/-- the state is fit -/
def lj_U (u : St1) : Prop := match u with
  | (fl, fs, fj, fk, a1, a2, a3, a4, a5, a6, a7, a8, a9, a10, a11, a12, a13, a14, a15, a16) => lj_P fl fs a2 a3 ∧ lj_J fj a5 a7
theorem lj_put {pc x y z : Int32} {p sz lim a : Nat} (hpc : pc = nI p) (hpz : p < sz) (hsz : sz ≤ 12) (hl : fl = nI lim) (hlim : lim ≤ 40) (hs : fs = nI sz) (hy : y = nI a) (ha : a ≤ 3)
    (hrow : ∀ q, q < sz → q ≠ p → ∃ a b : Nat, a2 q = nI a ∧ a ≤ 3 ∧ a3 q = nI b ∧ b ≤ 15) (h : ∀ u, lj_U u → post u) : wpX_put post (fl, fs, fj, fk, a1, a2, a3, a4, a5, a6, a7, a8, a9, a10, a11, a12, a13, a14, a15, a16) pc x y z := by
  subst hpc hy
  have hc : (nI p).toNatClampNeg = p := nI_clamp (by omega)
  have h12 : vp_in (nI p) 12 := pk_in p 12 (by omega)
  obtain ⟨b, hb, eb⟩ := pk_andE z (m := 15) 4 (by decide)
  unfold wpX_put
  refine ⟨h12, nm_e ⟨h12, nm_e ⟨h12, nm_e (h _ ⟨⟨lim, sz, hl, hlim, hs, hsz, fun q hq => ?_⟩, Or.inl rfl⟩)⟩⟩⟩
  rw [hc, eb, lj_byte a (by omega), lj_byte b (by omega)]
  by_cases e : q = p
  · subst e
    exact ⟨a, b, pk_us, ha, pk_us, by omega⟩
  · rw [pk_un e, pk_un e]
    exact hrow q hq e
theorem lj_emit {x y z : Int32} (hP : lj_P fl fs a2 a3) (hJ : lj_J fj a5 a7) (h : ∀ r u, lj_U u → postR r u) : wpX_emit postR (fl, fs, fj, fk, a1, a2, a3, a4, a5, a6, a7, a8, a9, a10, a11, a12, a13, a14, a15, a16) x y z := by
  have hU : lj_U (fl, fs, fj, fk, a1, a2, a3, a4, a5, a6, a7, a8, a9, a10, a11, a12, a13, a14, a15, a16) := ⟨hP, hJ⟩
  obtain ⟨lim, sz, hl, hlim, hs, hsz, hrow⟩ := hP
  subst hs
  unfold wpX_emit
  refine pk_lt sz 12 (fun hlt => ?_) (fun _ => h _ _ hU)
  refine lj_fault (fun ⟨a, ea, ha⟩ => br_t rfl (nm_r (nI_1 sz) ?_)) (fun r hr => br_f hr (h _ _ hU))
  exact lj_put (p := sz) (sz := sz + 1) (nI_pred sz) (by omega) (by omega) hl hlim rfl ea ha (fun q hq hne => hrow q (by omega)) (fun u hu => h _ u hu)
theorem lj_patch {p x y z : Int32} (hP : lj_P fl fs a2 a3) (hJ : lj_J fj a5 a7) (h : ∀ r u, lj_U u → postR r u) : wpX_patch postR (fl, fs, fj, fk, a1, a2, a3, a4, a5, a6, a7, a8, a9, a10, a11, a12, a13, a14, a15, a16) p x y z := by
  have hU : lj_U (fl, fs, fj, fk, a1, a2, a3, a4, a5, a6, a7, a8, a9, a10, a11, a12, a13, a14, a15, a16) := ⟨hP, hJ⟩
  obtain ⟨lim, sz, hl, hlim, hs, hsz, hrow⟩ := hP
  subst hs
  unfold wpX_patch
  refine br_c (fun _ => h _ _ hU) (fun h0 => br_c (fun h1 => ?_) (fun _ => h _ _ hU))
  obtain ⟨q, hq, eq⟩ := nI_of h0
  subst eq
  have hqz : q < sz := (nI_ltI hq (by omega)).mp h1
  refine lj_fault (fun ⟨a, ea, ha⟩ => br_t rfl ?_) (fun r hr => br_f hr (h _ _ hU))
  exact lj_put (p := q) (sz := sz) rfl hqz hsz hl hlim rfl ea ha (fun q hq _ => hrow q hq) (fun u hu => h _ u hu)
theorem lj_keepU (hP : lj_P fl fs a2 a3) (hJ : lj_J fj a5 a7) (h : ∀ u, lj_U u → post u) : wpX_keep post (fl, fs, fj, fk, a1, a2, a3, a4, a5, a6, a7, a8, a9, a10, a11, a12, a13, a14, a15, a16) :=
  lj_keep hP hJ (fun b4 b5 b6 b7 b8 b9 b10 b11 b12 b13 b14 b15 b16 hd _ _ => h _ ⟨hP, Or.inr ⟨rfl, hd⟩⟩)
theorem lj_clear (hP : lj_P fl fs a2 a3) (h : ∀ u, lj_U u → post u) : wpX_clear post (fl, fs, fj, fk, a1, a2, a3, a4, a5, a6, a7, a8, a9, a10, a11, a12, a13, a14, a15, a16) := by
  obtain ⟨lim, sz, hl, hlim, hs, hsz, hrow⟩ := hP
  exact h _ ⟨⟨lim, 0, hl, hlim, rfl, by omega, fun q hq => absurd hq (by omega)⟩, Or.inl rfl⟩
theorem lj_t61 {x1 x2 x3 x4 x5 x6 : Int32} (hP : lj_P fl fs a2 a3) (hJ : lj_J fj a5 a7) (h : ∀ u, lj_U u → post u) : wL_turn_61 post x1 x2 x3 x4 x5 x6 fl fs fj fk a1 a2 a3 a4 a5 a6 a7 a8 a9 a10 a11 a12 a13 a14 a15 a16 := by
  unfold wL_turn_61
  refine br_c (fun _ => br_c (fun _ => br_c (fun _ => ?_) (fun _ => br_c (fun _ => ?_) (fun _ => h _ ⟨hP, hJ⟩))) (fun _ => ?_)) (fun _ => ?_)
  · exact lj_keepU hP hJ (fun u hu => h u hu)
  · exact lj_clear hP (fun u hu => h u hu)
  · exact lj_patch hP hJ (fun r u hu => h u hu)
  · exact lj_emit hP hJ (fun r u hu => h u hu)
theorem lj_t40 {x1 x2 x3 x4 x5 z0 z1 : Int32} (hP : lj_P fl fs a2 a3) (hJ : lj_J fj a5 a7) (h : ∀ u, lj_U u → post u) : wL_turn_40 post x1 x2 x3 x4 x5 z0 z1 fl fs fj fk a1 a2 a3 a4 a5 a6 a7 a8 a9 a10 a11 a12 a13 a14 a15 a16 := by
  unfold wL_turn_40
  exact nm_e (br_c (fun _ => br_c (fun _ => lj_t61 hP hJ h) (fun _ => lj_t61 hP hJ h)) (fun _ => lj_t61 hP hJ h))
theorem lj_turn {x1 x2 x3 : Int32} (hP : lj_P fl fs a2 a3) (hJ : lj_J fj a5 a7) (h : ∀ u, lj_U u → post u) : wpL_turn post (fl, fs, fj, fk, a1, a2, a3, a4, a5, a6, a7, a8, a9, a10, a11, a12, a13, a14, a15, a16) x1 x2 x3 := by
  unfold wpL_turn
  exact ⟨by decide, nm_e (nm_e (br_c (fun _ => lj_t40 hP hJ h) (fun _ => br_c (fun _ => lj_t40 hP hJ h) (fun _ => lj_t40 hP hJ h))))⟩
end
end
section
section
variable {fl fs fj fk : Int32} {a1 a2 a3 : Nat → Int32} {a4 a5 a6 a7 a8 a9 a10 a11 a12 a13 a14 a15 a16 : Nat → Int64}
theorem lj_law27 (xs : Nat → Int32) (L : Nat) (hL : L ≤ 260) (kc ks : Nat) : ∀ (d i : Nat) (fl fs fj fk : Int32) (a1 a2 a3 : Nat → Int32) (a4 a5 a6 a7 a8 a9 a10 a11 a12 a13 a14 a15 a16 : Nat → Int64), 261 ≤ d + i → i ≤ 300 → lj_P fl fs a2 a3 → lj_J fj a5 a7 → wL_law_27 (fun r => r = 1) L xs kc ks (d + 1) (nI i) fl fs fj fk a1 a2 a3 a4 a5 a6 a7 a8 a9 a10 a11 a12 a13 a14 a15 a16 := by
  have fin : ∀ (fl fs fj fk : Int32) (a1 a2 a3 : Nat → Int32) (a4 a5 a6 a7 a8 a9 a10 a11 a12 a13 a14 a15 a16 : Nat → Int64) (n i : Nat), L ≤ i + 2 → i ≤ 300 → lj_P fl fs a2 a3 → lj_J fj a5 a7 → wL_law_27 (fun r => r = 1) L xs kc ks (n + 1) (nI i) fl fs fj fk a1 a2 a3 a4 a5 a6 a7 a8 a9 a10 a11 a12 a13 a14 a15 a16 := by
    intro fl fs fj fk a1 a2 a3 a4 a5 a6 a7 a8 a9 a10 a11 a12 a13 a14 a15 a16 n i hi hi2 hP hJ
    refine pk_le L (i + 2) (fun _ => ?_) (fun z => absurd z (by omega)) rfl (nI_add i 2)
    refine lj_lanes hP hJ (fun b4 b5 b6 b7 b8 b9 b10 b11 b12 b13 b14 hd => br_f (by decide) (lj_registers (br_f (by decide) ?_)))
    refine lj_keep hP (Or.inr ⟨rfl, hd⟩) (fun c4 c5 c6 c7 c8 c9 c10 c11 c12 c13 c14 c15 c16 hd' h7 h4 => ?_)
    exact lj_agreeing hd' h7 h4 (lj_difference hd' h7 h4 (br_t rfl (br_t rfl rfl)))
  intro d
  induction d with
  | zero =>
    intro i fl fs fj fk a1 a2 a3 a4 a5 a6 a7 a8 a9 a10 a11 a12 a13 a14 a15 a16 h1 h2 hP hJ
    exact fin fl fs fj fk a1 a2 a3 a4 a5 a6 a7 a8 a9 a10 a11 a12 a13 a14 a15 a16 0 i (by omega) h2 hP hJ
  | succ d ih =>
    intro i fl fs fj fk a1 a2 a3 a4 a5 a6 a7 a8 a9 a10 a11 a12 a13 a14 a15 a16 h1 h2 hP hJ
    by_cases hi : L ≤ i + 2
    · exact fin fl fs fj fk a1 a2 a3 a4 a5 a6 a7 a8 a9 a10 a11 a12 a13 a14 a15 a16 (d + 1) i hi h2 hP hJ
    · refine pk_le L (i + 2) (fun z => absurd z hi) (fun _ => ?_) rfl (nI_add i 2)
      refine ⟨pk_in i L (by omega), pk_in (i + 1) L (by omega) (nI_1 i), pk_in (i + 2) L (by omega) (nI_add i 2), lj_turn hP hJ (fun u hu => ?_)⟩
      obtain ⟨gl, gs, gj, gk, c1, c2, c3, c4, c5, c6, c7, c8, c9, c10, c11, c12, c13, c14, c15, c16⟩ := u
      exact nm_r (nI_add i 3) (ih (i + 3) gl gs gj gk c1 c2 c3 c4 c5 c6 c7 c8 c9 c10 c11 c12 c13 c14 c15 c16 (by omega) (by omega) hu.1 hu.2)
theorem lj_law15 (xs : Nat → Int32) (L : Nat) (hL : L ≤ 260) (z : Int32) : wL_law_15 (fun r => r = 1) L xs z 0 0 := by
  have main : ∀ lim : Nat, lim ≤ 40 → ∃ fu, wL_law_27 (fun r => r = 1) L xs (0 + 1 + 16) (0 + 20 + 120) fu 1 (nI lim) 0 0 0 (fun _ => 0) (fun _ => 0) (fun _ => 0) (fun _ => 0) (fun _ => 0) (fun _ => 0) (fun _ => 0) (fun _ => 0) (fun _ => 0) (fun _ => 0) (fun _ => 0) (fun _ => 0) (fun _ => 0) (fun _ => 0) (fun _ => 0) (fun _ => 0) := fun lim hlim =>
    ⟨260 + 1, lj_law27 xs L hL _ _ 260 1 _ _ _ _ _ _ _ _ _ _ _ _ _ _ _ _ _ _ _ _ (by omega) (by omega) ⟨lim, 0, rfl, hlim, rfl, by omega, fun q hq => absurd hq (by omega)⟩ (Or.inl rfl)⟩
  unfold wL_law_15
  refine ⟨by omega, by omega, 16, 120, by omega, by omega, ?_⟩
  unfold wpX_init
  refine ⟨by omega, by omega, by omega, by omega, by omega, by omega, by omega, by omega, by omega, by omega, by omega, by omega, by omega, by omega, by omega, by omega, by omega, by omega, by omega, by omega, by omega, by omega, by omega, by omega, by omega, by omega, by omega, by omega, by omega, by omega, by omega, by omega, ?_⟩
  refine br_c (fun h1 => br_c (fun h2 => ?_) (fun _ => main 40 (by omega))) (fun _ => main 1 (by omega))
  obtain ⟨lim, hlim, e⟩ := nI_of2 (x := z) (M := 40) (n := 40) (by decide) (by
    rw [Int32.not_lt]
    exact Int32.le_trans (by decide) h1) h2
  subst e
  exact main lim hlim
end
theorem i_vc (xs : Nat → Int32) (L : Nat) (hL : L ≤ 260) : wpL_law (fun r => r = 1) L xs := by
  unfold wpL_law
  exact pk_le L 0 (fun _ => lj_law15 xs L hL 0) (fun h => ⟨pk_in 0 L h, lj_law15 xs L hL _⟩)
end
