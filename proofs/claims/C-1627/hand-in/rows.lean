section
/-! pure rows to paste: stores, nI and lN arithmetic, masks, shifts, narrowing, branches by naturals (pk_le, pk_lt, pk_eq), loops (lp1 .. lp16: the measure of the state; rp1 ..: recursion), negatives. Take what you need -/
theorem pk_us {f : Nat → Int32} {k : Nat} {x : Int32} : upd f k x k = x := if_pos rfl
theorem pk_un {f : Nat → Int32} {k j : Nat} {x : Int32} (h : j ≠ k) : upd f k x j = f j := if_neg h
theorem pk_uLs {f : Nat → Int64} {k : Nat} {x : Int64} : vp_updL f k x k = x := if_pos rfl
theorem pk_uLn {f : Nat → Int64} {k j : Nat} {x : Int64} (h : j ≠ k) : vp_updL f k x j = f j := if_neg h
theorem pk_sub {a b : Nat} (h : b ≤ a) : nI a - nI b = nI (a - b) := by
  obtain ⟨c, rfl⟩ : ∃ c, a = c + b := ⟨a - b, by omega⟩
  rw [← nI_add, Int32.add_sub_cancel, Nat.add_sub_cancel]
theorem pk_m1 (n : Nat) : nI (n + 1) + (-1) = nI n := by
  rw [← nI_1, Int32.add_assoc, show (1 : Int32) + (-1) = 0 from rfl, Int32.add_zero]
theorem pk_mul (a b : Nat) : nI a * nI b = nI (a * b) := (Int32.ofNat_mul a b).symm
theorem pk_div {a d : Nat} (ha : a < 2 ^ 31) (h0 : 0 < d) (hd : d < 2 ^ 31) : nI a / nI d = nI (a / d) := by
  apply Int32.toInt_inj.mp
  rw [lg_idiv_nonneg (by rw [nI_toInt ha]; omega) (by rw [nI_toInt hd]; omega), nI_toInt ha, nI_toInt hd, nI_toInt (Nat.lt_of_le_of_lt (Nat.div_le_self a d) ha)]
  first | rfl | exact (Int.natCast_ediv _ _).symm
theorem pk_rem {a d : Nat} (ha : a < 2 ^ 31) (h0 : 0 < d) (hd : d < 2 ^ 31) : nI a - nI a / nI d * nI d = nI (a % d) := by
  rw [pk_div ha h0 hd, pk_mul, pk_sub (Nat.div_mul_le_self a d)]
  exact congrArg nI (by have := Nat.div_add_mod' a d; omega)
theorem pk_sub_toInt {a b : Nat} (ha : a < 2 ^ 30) (hb : b < 2 ^ 30) : (nI a - nI b).toInt = (a : Int) - b := by
  rw [Int32.toInt_sub, nI_toInt (by omega), nI_toInt (by omega)]
  exact Int.bmod_eq_of_le (by omega) (by omega)
theorem pk_sneg {a b : Nat} (hb : b < 2 ^ 30) (h : a < b) : nI a - nI b < 0 := by
  rw [Int32.lt_iff_toInt_lt, pk_sub_toInt (by omega) hb, show (0 : Int32).toInt = 0 from by decide]
  omega
theorem pk_ix (x : Int32) {n : Nat} (hn : n < 2 ^ 31) : x < 0 ∨ nI n ≤ x ∨ ∃ j : Nat, j < n ∧ x = nI j := by
  by_cases h : x < 0
  · exact Or.inl h
  · obtain ⟨j, hj, rfl⟩ := nI_of h
    by_cases h2 : j < n
    · exact Or.inr (Or.inr ⟨j, h2, rfl⟩)
    · exact Or.inr (Or.inl (nI_le (by omega) hj))
theorem pk_le {x y : Int32} {A B : Prop} (a b : Nat) (f : a ≤ b → A) (g : b < a → B) (hx : x = nI a := by rfl) (hy : y = nI b := by rfl) (ha : a < 2 ^ 31 := by omega) (hb : b < 2 ^ 31 := by omega) : (x ≤ y → A) ∧ (¬ x ≤ y → B) := by
  subst hx hy
  rw [nI_leI ha hb]
  exact ⟨f, fun z => g (by omega)⟩
theorem pk_lt {x y : Int32} {A B : Prop} (a b : Nat) (f : a < b → A) (g : b ≤ a → B) (hx : x = nI a := by rfl) (hy : y = nI b := by rfl) (ha : a < 2 ^ 31 := by omega) (hb : b < 2 ^ 31 := by omega) : (x < y → A) ∧ (¬ x < y → B) := by
  subst hx hy
  rw [nI_ltI ha hb]
  exact ⟨f, fun z => g (by omega)⟩
theorem pk_eq {x y : Int32} {A B : Prop} (a b : Nat) (f : a = b → A) (g : a ≠ b → B) (hx : x = nI a := by rfl) (hy : y = nI b := by rfl) (ha : a < 2 ^ 31 := by omega) (hb : b < 2 ^ 31 := by omega) : (x = y → A) ∧ (¬ x = y → B) := by
  subst hx hy
  rw [nI_eq ha hb]
  exact ⟨f, g⟩
theorem pk_in {x : Int32} (n N : Nat) (h : n < N) (hx : x = nI n := by rfl) (hN : N < 2 ^ 31 := by omega) : vp_in x N := by
  subst hx
  exact vp_in_nI h hN
theorem pk_cl {x : Int32} (n : Nat) (hx : x = nI n := by rfl) (h : n < 2 ^ 31 := by omega) : x.toNatClampNeg = n := by
  subst hx
  exact nI_clamp h
theorem pk_tn {n : Nat} (h : n < 2 ^ 32) : (nI n).toBitVec.toNat = n := Nat.mod_eq_of_lt h
theorem pk_and (x : Int32) {m : Int32} (k : Nat) (hm : m.toBitVec.toNat = 2 ^ k - 1) : x &&& m = nI (x.toBitVec.toNat % 2 ^ k) := by
  apply Int32.toBitVec_inj.mp
  apply BitVec.eq_of_toNat_eq
  rw [Int32.toBitVec_and, BitVec.toNat_and, hm, Nat.and_two_pow_sub_one_eq_mod]
  show _ = (BitVec.ofNat 32 _).toNat
  rw [BitVec.toNat_ofNat]
  exact (Nat.mod_eq_of_lt (Nat.lt_of_le_of_lt (Nat.mod_le _ _) x.toBitVec.isLt)).symm
theorem pk_andN {n : Nat} (h : n < 2 ^ 32) {m : Int32} (k : Nat) (hm : m.toBitVec.toNat = 2 ^ k - 1) : nI n &&& m = nI (n % 2 ^ k) := by
  rw [pk_and _ k hm, pk_tn h]
theorem pk_andE (x : Int32) {m : Int32} (k : Nat) (hm : m.toBitVec.toNat = 2 ^ k - 1) : ∃ j : Nat, j < 2 ^ k ∧ x &&& m = nI j := ⟨_, Nat.mod_lt _ (Nat.two_pow_pos k), pk_and x k hm⟩
theorem pk_andIn (x : Int32) {m : Int32} (k : Nat) (hm : m.toBitVec.toNat = 2 ^ k - 1) (hk : k ≤ 30) : vp_in (x &&& m) (2 ^ k) := by
  obtain ⟨j, hj, e⟩ := pk_andE x k hm
  rw [e]
  exact vp_in_nI hj (Nat.lt_of_le_of_lt (Nat.pow_le_pow_right (by decide) hk) (by decide))
theorem pk_shl (a s : Int32) (k : Nat) (hs : (s.toBitVec.smod 32).toNat = k) : (a <<< s).toBitVec.toNat = a.toBitVec.toNat * 2 ^ k % 2 ^ 32 := by
  show (a.toBitVec <<< (s.toBitVec.smod 32).toNat).toNat = _
  rw [hs, BitVec.toNat_shiftLeft, Nat.shiftLeft_eq]
theorem pk_shlN {n : Nat} (s : Int32) (k : Nat) (hs : (s.toBitVec.smod 32).toNat = k) (h : n * 2 ^ k < 2 ^ 32) : nI n <<< s = nI (n * 2 ^ k) := by
  apply Int32.toBitVec_inj.mp
  apply BitVec.eq_of_toNat_eq
  have hn : n < 2 ^ 32 := Nat.lt_of_le_of_lt (Nat.le_mul_of_pos_right n (Nat.two_pow_pos k)) h
  rw [pk_shl _ _ k hs, pk_tn hn, pk_tn h, Nat.mod_eq_of_lt h]
theorem pk_shr (a s : Int32) (k : Nat) (hs : (s.toBitVec.smod 32).toNat = k) : (a >>> s).toInt = a.toInt >>> k := by
  show (a.toBitVec.sshiftRight (s.toBitVec.smod 32).toNat).toInt = _
  rw [hs, BitVec.toInt_sshiftRight]
  rfl
theorem pk_shrN {n : Nat} (h : n < 2 ^ 31) (s : Int32) (k : Nat) (hs : (s.toBitVec.smod 32).toNat = k) : nI n >>> s = nI (n / 2 ^ k) := by
  apply Int32.toInt_inj.mp
  have h2 : n / 2 ^ k ≤ n := Nat.div_le_self _ _
  rw [pk_shr _ _ k hs, nI_toInt h, nI_toInt (by omega), Int.shiftRight_eq_div_pow]
  rfl
theorem s_l : ∀ n, n < 32 → ((nI n &&& 31).toBitVec.smod 32).toNat = n := by decide +kernel
end
section
/-! digits of a natural number in base B, and the step of every digit loop -/
theorem rb_pp {B : Nat} (hB : 0 < B) (n : Nat) : 0 < B ^ n := Nat.pow_pos hB
def rb_d (B v i : Nat) : Nat := v / B ^ i % B
theorem rb_d_lt {B : Nat} (hB : 0 < B) (v i : Nat) : rb_d B v i < B := Nat.mod_lt _ hB
theorem rb_q (B v i : Nat) : v / B ^ (i + 1) = v / B ^ i / B := by
  rw [Nat.pow_succ, Nat.div_div_eq_div_mul]
theorem rb_q' (B v i : Nat) : v / B ^ (i + 1) = v / B / B ^ i := by
  rw [Nat.pow_succ', Nat.div_div_eq_div_mul]
theorem rb_st (B v i : Nat) : v / B ^ i = B * (v / B ^ (i + 1)) + rb_d B v i := by
  rw [rb_q]; exact (Nat.div_add_mod _ _).symm
theorem rb_q0 (B v : Nat) : v / B ^ 0 = v := by rw [Nat.pow_zero, Nat.div_one]
theorem rb_hi0 {B v n i : Nat} (hB : 0 < B) (hv : v < B ^ n) (hi : n ≤ i) : v / B ^ i = 0 :=
  Nat.div_eq_of_lt (Nat.lt_of_lt_of_le hv (Nat.pow_le_pow_right hB hi))
theorem rb_d_hi {B v n i : Nat} (hB : 0 < B) (hv : v < B ^ n) (hi : n ≤ i) : rb_d B v i = 0 := by
  unfold rb_d; rw [rb_hi0 hB hv hi, Nat.zero_mod]
theorem rb_lt_q {B v n : Nat} (hB : 0 < B) (h : v / B ^ n = 0) : v < B ^ n :=
  Nat.lt_of_not_le fun hle => absurd h (Nat.ne_of_gt (Nat.div_pos hle (rb_pp hB n)))
theorem rb_d_S {B : Nat} (hB : 0 < B) {d : Nat} (hd : d < B) (w i : Nat) : rb_d B (d + B * w) (i + 1) = rb_d B w i := by
  unfold rb_d; rw [rb_q', Nat.add_mul_div_left d w hB, Nat.div_eq_of_lt hd, Nat.zero_add]
theorem rb_d_Z {B : Nat} {d : Nat} (hd : d < B) (w : Nat) : rb_d B (d + B * w) 0 = d := by
  unfold rb_d; rw [rb_q0, Nat.add_mul_mod_self_left, Nat.mod_eq_of_lt hd]
theorem rb_d0 (B i : Nat) : rb_d B 0 i = 0 := by unfold rb_d; rw [Nat.zero_div, Nat.zero_mod]
theorem rb_d_succ (B v i : Nat) : rb_d B v (i + 1) = rb_d B (v / B) i := by unfold rb_d; rw [rb_q']
/-- the number of a row of digits -/
def rb_val (B : Nat) : Nat → (Nat → Nat) → Nat
  | 0, _ => 0
  | n + 1, d => d 0 + B * rb_val B n (fun i => d (i + 1))
theorem rb_val_c (B : Nat) : ∀ (n : Nat) (d e : Nat → Nat), (∀ i, i < n → d i = e i) → rb_val B n d = rb_val B n e := by
  intro n
  induction n with
  | zero => intro d e _; rfl
  | succ n ih =>
    intro d e h
    show d 0 + B * rb_val B n (fun i => d (i + 1)) = e 0 + B * rb_val B n (fun i => e (i + 1))
    rw [h 0 (by omega), ih _ _ (fun i hi => h (i + 1) (by omega))]
theorem rb_val_lt {B : Nat} (hB : 0 < B) : ∀ (n : Nat) (d : Nat → Nat), (∀ i, i < n → d i < B) → rb_val B n d < B ^ n := by
  intro n
  induction n with
  | zero => intro d _; exact Nat.one_pos
  | succ n ih =>
    intro d h
    have h0 := h 0 (by omega)
    have h1 := ih (fun i => d (i + 1)) (fun i hi => h (i + 1) (by omega))
    show d 0 + B * rb_val B n (fun i => d (i + 1)) < B ^ (n + 1)
    rw [Nat.pow_succ']
    have h2 : B * (rb_val B n (fun i => d (i + 1)) + 1) ≤ B * B ^ n := Nat.mul_le_mul_left B h1
    rw [Nat.mul_add, Nat.mul_one] at h2
    omega
theorem rb_val_d {B : Nat} (hB : 0 < B) : ∀ (n : Nat) (d : Nat → Nat), (∀ i, i < n → d i < B) → ∀ i, i < n → rb_d B (rb_val B n d) i = d i := by
  intro n
  induction n with
  | zero => intro d _ i hi; omega
  | succ n ih =>
    intro d h i hi
    show rb_d B (d 0 + B * rb_val B n (fun i => d (i + 1))) i = d i
    cases i with
    | zero => exact rb_d_Z (h 0 (by omega)) _
    | succ i =>
      rw [rb_d_S hB (h 0 (by omega))]
      exact ih (fun i => d (i + 1)) (fun i hi => h (i + 1) (by omega)) i (by omega)
theorem rb_val_of {B : Nat} : ∀ (n v : Nat), v < B ^ n → rb_val B n (rb_d B v) = v := by
  intro n
  induction n with
  | zero => intro v h; rw [Nat.pow_zero] at h; show 0 = v; omega
  | succ n ih =>
    intro v h
    show rb_d B v 0 + B * rb_val B n (fun i => rb_d B v (i + 1)) = v
    have e : (fun i => rb_d B v (i + 1)) = rb_d B (v / B) := funext fun i => rb_d_succ B v i
    rw [e, ih (v / B) (Nat.div_lt_of_lt_mul (by rw [← Nat.pow_succ']; exact h))]
    show v / B ^ 0 % B + B * (v / B) = v
    rw [rb_q0]
    have := Nat.div_add_mod v B
    omega
theorem rb_ext {B n v w : Nat} (hv : v < B ^ n) (hw : w < B ^ n) (h : ∀ i, i < n → rb_d B v i = rb_d B w i) : v = w := by
  rw [← rb_val_of n v hv, ← rb_val_of n w hw]
  exact rb_val_c B n _ _ h
theorem rb_d_mod {B n k : Nat} (v : Nat) (h : k < n) : rb_d B (v % B ^ n) k = rb_d B v k := by
  obtain ⟨m, rfl⟩ : ∃ m, n = k + (m + 1) := ⟨n - k - 1, by omega⟩
  unfold rb_d
  rw [Nat.pow_add, Nat.mod_mul_right_div_self, Nat.mod_mod_of_dvd _ (by rw [Nat.pow_succ']; exact Nat.dvd_mul_right _ _)]
theorem rb_low {B T i w k : Nat} (h : k < i) : rb_d B (T + B ^ i * w) k = rb_d B T k := by
  rw [← rb_d_mod (T + B ^ i * w) h, Nat.add_mul_mod_self_left, rb_d_mod T h]
theorem rb_zd {B v n : Nat} (hB : 0 < B) : ∀ m, v < B ^ m → (∀ j, n ≤ j → j < m → rb_d B v j = 0) → v < B ^ n := by
  intro m
  induction m with
  | zero => intro h _; exact Nat.lt_of_lt_of_le h (Nat.pow_le_pow_right hB (by omega))
  | succ m ih =>
    intro h hz
    by_cases e : n ≤ m
    · refine ih (rb_lt_q hB ?_) (fun j h1 h2 => hz j h1 (by omega))
      rw [rb_st, rb_hi0 hB h (Nat.le_refl _), hz m e (by omega), Nat.mul_zero]
    · exact Nat.lt_of_lt_of_le h (Nat.pow_le_pow_right hB (by omega))
theorem rb_zero {B v m : Nat} (hB : 0 < B) (hv : v < B ^ m) (h : ∀ j, j < m → rb_d B v j = 0) : v = 0 := by
  have := rb_zd (n := 0) hB m hv (fun j _ hj => h j hj)
  rw [Nat.pow_zero] at this
  omega
/-- comparing from the first digit on -/
theorem rb_c_eq {B x y i : Nat} (h : x / B ^ (i + 1) = y / B ^ (i + 1)) (hd : rb_d B x i = rb_d B y i) : x / B ^ i = y / B ^ i := by
  rw [rb_st B x i, rb_st B y i, h, hd]
theorem rb_c_lt {B x y i : Nat} (h : x / B ^ (i + 1) = y / B ^ (i + 1)) (hd : rb_d B x i < rb_d B y i) : x < y := by
  refine Nat.lt_of_not_le fun hle => ?_
  have h1 : y / B ^ i ≤ x / B ^ i := Nat.div_le_div_right hle
  rw [rb_st B x i, rb_st B y i, h] at h1
  omega
/-- R = t * y + D, digit by digit -/
theorem rb_ts {B t y D R i c : Nat} (hB : 0 < B) (h : R / B ^ i = t * (y / B ^ i) + D / B ^ i + c) :
    rb_d B R i = (t * rb_d B y i + rb_d B D i + c) % B ∧ R / B ^ (i + 1) = t * (y / B ^ (i + 1)) + D / B ^ (i + 1) + (t * rb_d B y i + rb_d B D i + c) / B := by
  have e : R / B ^ i = B * (t * (y / B ^ (i + 1)) + D / B ^ (i + 1)) + (t * rb_d B y i + rb_d B D i + c) := by
    rw [h, rb_st B y i, rb_st B D i]
    generalize y / B ^ (i + 1) = Y
    generalize D / B ^ (i + 1) = E
    rw [Nat.mul_add, Nat.mul_add, ← Nat.mul_assoc, ← Nat.mul_assoc, Nat.mul_comm t B]
    omega
  constructor
  · show R / B ^ i % B = _
    rw [e, Nat.mul_add_mod]
  · rw [rb_q, e, Nat.mul_add_div hB]
/-- T' = T + x * y * B^i, digit by digit from i on -/
theorem rb_ms {B x y T T' i j c : Nat} (hB : 0 < B) (h : T' / B ^ (i + j) = T / B ^ (i + j) + x * (y / B ^ j) + c) :
    rb_d B T' (i + j) = (rb_d B T (i + j) + x * rb_d B y j + c) % B ∧ T' / B ^ (i + j + 1) = T / B ^ (i + j + 1) + x * (y / B ^ (j + 1)) + (rb_d B T (i + j) + x * rb_d B y j + c) / B := by
  have e : T' / B ^ (i + j) = B * (T / B ^ (i + j + 1) + x * (y / B ^ (j + 1))) + (rb_d B T (i + j) + x * rb_d B y j + c) := by
    rw [h, rb_st B y j, rb_st B T (i + j)]
    generalize y / B ^ (j + 1) = Y
    generalize T / B ^ (i + j + 1) = E
    rw [Nat.mul_add, Nat.mul_add, ← Nat.mul_assoc, ← Nat.mul_assoc, Nat.mul_comm x B]
    omega
  constructor
  · show T' / B ^ (i + j) % B = _
    rw [e, Nat.mul_add_mod]
  · rw [rb_q, e, Nat.mul_add_div hB]
/-- dividing v by m from the first digit on -/
theorem rb_dv {B v m i r : Nat} (hB : 0 < B) (hm : 0 < m) (hr : r = v / B ^ (i + 1) % m) :
    (r * B + rb_d B v i) / m = rb_d B (v / m) i ∧ (r * B + rb_d B v i) % m = v / B ^ i % m ∧ r * B + rb_d B v i < m * B := by
  have hd : rb_d B v i < B := rb_d_lt hB v i
  have hrm : r < m := by rw [hr]; exact Nat.mod_lt _ hm
  have e : v / B ^ i = m * (B * (v / B ^ (i + 1) / m)) + (r * B + rb_d B v i) := by
    have h1 := rb_st B v i
    have h2 := Nat.div_add_mod (v / B ^ (i + 1)) m
    rw [← hr] at h2
    rw [h1]
    have h3 : B * (v / B ^ (i + 1)) = B * (m * (v / B ^ (i + 1) / m) + r) := by rw [h2]
    rw [h3, Nat.mul_add, ← Nat.mul_assoc, ← Nat.mul_assoc, Nat.mul_comm m B, Nat.mul_comm r B, Nat.add_assoc]
  have hx : r * B + rb_d B v i < m * B := by
    have : (r + 1) * B ≤ m * B := Nat.mul_le_mul_right B hrm
    rw [Nat.add_mul, Nat.one_mul] at this
    omega
  refine ⟨?_, ?_, hx⟩
  · have h1 : v / m / B ^ i = v / B ^ i / m := by rw [Nat.div_div_eq_div_mul, Nat.mul_comm, ← Nat.div_div_eq_div_mul]
    show _ = v / m / B ^ i % B
    rw [h1, e, Nat.mul_add_div hm, Nat.mul_add_mod, Nat.mod_eq_of_lt (Nat.div_lt_of_lt_mul hx)]
  · rw [e, Nat.mul_add_mod]
/-- running the carries through sums of digit products -/
theorem rb_cs {B P i n c : Nat} {w : Nat → Nat} (hB : 0 < B) (h : P / B ^ i = rb_val B (n + 1) (fun k => w (i + k)) + c) :
    rb_d B P i = (w i + c) % B ∧ P / B ^ (i + 1) = rb_val B n (fun k => w (i + 1 + k)) + (w i + c) / B := by
  have e : P / B ^ i = B * rb_val B n (fun k => w (i + 1 + k)) + (w i + c) := by
    rw [h]
    show w (i + 0) + B * rb_val B n (fun k => w (i + (k + 1))) + c = _
    rw [rb_val_c B n (fun k => w (i + (k + 1))) (fun k => w (i + 1 + k)) (fun k _ => congrArg w (by omega)), Nat.add_zero]
    omega
  constructor
  · show P / B ^ i % B = _
    rw [e, Nat.mul_add_mod]
  · rw [rb_q, e, Nat.mul_add_div hB]
end
section
/-! sums of ints and congruences -/
def nt_s : Nat → (Nat → Int) → Int
  | 0, _ => 0
  | n + 1, f => nt_s n f + f n
theorem nt_s_c : ∀ (n : Nat) (f g : Nat → Int), (∀ i, i < n → f i = g i) → nt_s n f = nt_s n g := by
  intro n f g
  induction n with
  | zero => intro _; rfl
  | succ n ih =>
    intro h
    show nt_s n f + f n = nt_s n g + g n
    rw [ih (fun i hi => h i (by omega)), h n (by omega)]
theorem nt_s_add (n : Nat) (f g : Nat → Int) : nt_s n (fun i => f i + g i) = nt_s n f + nt_s n g := by
  induction n with
  | zero => rfl
  | succ n ih =>
    show nt_s n (fun i => f i + g i) + (f n + g n) = nt_s n f + f n + (nt_s n g + g n)
    rw [ih]; omega
theorem nt_s_mul (n : Nat) (a : Int) (f : Nat → Int) : nt_s n (fun i => a * f i) = a * nt_s n f := by
  induction n with
  | zero => exact (Int.mul_zero a).symm
  | succ n ih =>
    show nt_s n (fun i => a * f i) + a * f n = a * (nt_s n f + f n)
    rw [ih, Int.mul_add]
theorem nt_s_mulr (n : Nat) (a : Int) (f : Nat → Int) : nt_s n (fun i => f i * a) = nt_s n f * a := by
  induction n with
  | zero => exact (Int.zero_mul a).symm
  | succ n ih =>
    show nt_s n (fun i => f i * a) + f n * a = (nt_s n f + f n) * a
    rw [ih, Int.add_mul]
theorem nt_s_0 (n : Nat) (f : Nat → Int) (h : ∀ i, i < n → f i = 0) : nt_s n f = 0 := by
  induction n with
  | zero => rfl
  | succ n ih =>
    show nt_s n f + f n = 0
    rw [ih (fun i hi => h i (by omega)), h n (by omega)]; rfl
theorem nt_s_swap (n m : Nat) (f : Nat → Nat → Int) : nt_s n (fun i => nt_s m (fun j => f i j)) = nt_s m (fun j => nt_s n (fun i => f i j)) := by
  induction n with
  | zero => exact (nt_s_0 m _ (fun _ _ => rfl)).symm
  | succ n ih =>
    show nt_s n (fun i => nt_s m (fun j => f i j)) + nt_s m (fun j => f n j) = nt_s m (fun j => nt_s n (fun i => f i j) + f n j)
    rw [ih, nt_s_add]
theorem nt_s_eo (n : Nat) (f : Nat → Int) : nt_s (2 * n) f = nt_s n (fun s => f (2 * s)) + nt_s n (fun s => f (2 * s + 1)) := by
  induction n with
  | zero => rfl
  | succ n ih =>
    show nt_s (2 * n) f + f (2 * n) + f (2 * n + 1) = nt_s n (fun s => f (2 * s)) + f (2 * n) + (nt_s n (fun s => f (2 * s + 1)) + f (2 * n + 1))
    rw [ih]; omega
theorem nt_s_one {n k : Nat} (f : Nat → Int) (hk : k < n) (h : ∀ i, i < n → i ≠ k → f i = 0) : nt_s n f = f k := by
  induction n with
  | zero => omega
  | succ n ih =>
    show nt_s n f + f n = f k
    by_cases e : k = n
    · rw [nt_s_0 n f (fun i hi => h i (by omega) (by omega)), e, Int.zero_add]
    · rw [ih (by omega) (fun i hi => h i (by omega)), h n (by omega) (by omega), Int.add_zero]
theorem nt_s_ext {m : Nat} (f : Nat → Int) : ∀ n, m ≤ n → (∀ i, m ≤ i → i < n → f i = 0) → nt_s n f = nt_s m f := by
  intro n
  induction n with
  | zero => intro h _; obtain rfl : m = 0 := by omega
            rfl
  | succ n ih =>
    intro h hz
    by_cases e : m = n + 1
    · rw [e]
    · show nt_s n f + f n = _
      rw [ih (by omega) (fun i h1 h2 => hz i h1 (by omega)), hz n (by omega) (by omega), Int.add_zero]
theorem nt_s_left (n : Nat) (f : Nat → Int) : nt_s (n + 1) f = f 0 + nt_s n (fun i => f (i + 1)) := by
  induction n with
  | zero => show (0 : Int) + f 0 = f 0 + 0; omega
  | succ n ih =>
    show nt_s (n + 1) f + f (n + 1) = f 0 + (nt_s n (fun i => f (i + 1)) + f (n + 1))
    rw [ih]; omega
theorem nt_s_bd (n : Nat) (K : Int) (f : Nat → Int) (h : ∀ i, i < n → 0 ≤ f i ∧ f i ≤ K) : 0 ≤ nt_s n f ∧ nt_s n f ≤ n * K := by
  induction n with
  | zero => show (0 : Int) ≤ 0 ∧ (0 : Int) ≤ (0 : Nat) * K; simp
  | succ n ih =>
    have h1 := ih (fun i hi => h i (by omega))
    have h2 := h n (by omega)
    show 0 ≤ nt_s n f + f n ∧ nt_s n f + f n ≤ ((n + 1 : Nat) : Int) * K
    have e : ((n + 1 : Nat) : Int) * K = n * K + K := by rw [Int.natCast_add, Int.add_mul]; simp
    rw [e]
    generalize (n : Int) * K = Q at *
    omega
/-- congruent modulo p -/
def nt_c (p a b : Int) : Prop := ∃ t : Int, a = b + p * t
theorem nt_c_r (p a : Int) : nt_c p a a := ⟨0, by simp⟩
theorem nt_c_e {p a b : Int} (h : a = b) : nt_c p a b := h ▸ nt_c_r p a
theorem nt_c_s {p a b : Int} : nt_c p a b → nt_c p b a := fun ⟨t, h⟩ => ⟨-t, by grind⟩
theorem nt_c_t {p a b c : Int} : nt_c p a b → nt_c p b c → nt_c p a c := fun ⟨t, h⟩ ⟨s, g⟩ => ⟨t + s, by grind⟩
theorem nt_c_add {p a b c d : Int} : nt_c p a b → nt_c p c d → nt_c p (a + c) (b + d) := fun ⟨t, h⟩ ⟨s, g⟩ => ⟨t + s, by grind⟩
theorem nt_c_sub {p a b c d : Int} : nt_c p a b → nt_c p c d → nt_c p (a - c) (b - d) := fun ⟨t, h⟩ ⟨s, g⟩ => ⟨t - s, by grind⟩
theorem nt_c_mul {p a b c d : Int} : nt_c p a b → nt_c p c d → nt_c p (a * c) (b * d) := fun ⟨t, h⟩ ⟨s, g⟩ => ⟨b * s + t * d + p * t * s, by grind⟩
theorem nt_c_pow {p a b : Int} (h : nt_c p a b) (n : Nat) : nt_c p (a ^ n) (b ^ n) := by
  induction n with
  | zero => rw [Int.pow_zero, Int.pow_zero]; exact nt_c_r _ _
  | succ n ih => rw [Int.pow_succ, Int.pow_succ]; exact nt_c_mul ih h
theorem nt_c_sum {p : Int} (n : Nat) (f g : Nat → Int) (h : ∀ i, i < n → nt_c p (f i) (g i)) : nt_c p (nt_s n f) (nt_s n g) := by
  induction n with
  | zero => exact nt_c_r _ _
  | succ n ih => exact nt_c_add (ih (fun i hi => h i (by omega))) (h n (by omega))
theorem nt_c_mod (p a : Nat) : nt_c p ((a % p : Nat) : Int) a := by
  refine ⟨-((a / p : Nat) : Int), ?_⟩
  have h : ((p * (a / p) + a % p : Nat) : Int) = a := congrArg Nat.cast (Nat.div_add_mod a p)
  rw [Int.natCast_add, Int.natCast_mul] at h
  rw [Int.mul_neg]
  omega
theorem nt_c_p (p a : Int) : nt_c p (a + p) a := ⟨1, by simp⟩
/-- two remainders that are congruent are equal -/
theorem nt_c_eq {p a b : Nat} (ha : a < p) (hb : b < p) (h : nt_c p a b) : a = b := by
  obtain ⟨t, h⟩ := h
  have hp : (0 : Int) < p := by omega
  have h1 : (a : Int) % p = (b + p * t) % p := by rw [h]
  rw [Int.add_mul_emod_self_left, Int.emod_eq_of_lt (by omega) (by omega), Int.emod_eq_of_lt (by omega) (by omega)] at h1
  omega
theorem nt_c_nat {p a b : Nat} (h : nt_c p a b) : a % p = b % p := by
  obtain ⟨t, h⟩ := h
  have h1 : (a : Int) % p = (b + p * t) % p := by rw [h]
  rw [Int.add_mul_emod_self_left] at h1
  exact Int.ofNat.inj (by rw [Int.ofNat_eq_natCast, Int.ofNat_eq_natCast, Int.natCast_emod, Int.natCast_emod]; exact h1)
end
section
/-! the transform of length 64: levels, convolution -/
def nt_rev (i : Nat) : Nat := i % 2 * 32 + i / 2 % 2 * 16 + i / 4 % 2 * 8 + i / 8 % 2 * 4 + i / 16 % 2 * 2 + i / 32 % 2
theorem nt_rev_lt (i : Nat) : nt_rev i < 64 := by unfold nt_rev; omega
theorem nt_rev_rev : ∀ i, i < 64 → nt_rev (nt_rev i) = i := by decide +kernel
theorem nt_W64 {p W : Int} (hW : nt_c p (W ^ 32) (-1)) : nt_c p (W ^ 64) 1 := by
  rw [show (64 : Nat) = 32 + 32 from rfl, Int.pow_add]
  exact nt_c_mul hW hW
theorem nt_W64s {p W : Int} (hW : nt_c p (W ^ 32) (-1)) (s : Nat) : nt_c p (W ^ (64 * s)) 1 := by
  rw [Int.pow_mul]
  have h := nt_c_pow (nt_W64 hW) s
  rw [Int.one_pow] at h
  exact h
theorem nt_W32s {p W : Int} (hW : nt_c p (W ^ 32) (-1)) (s : Nat) : nt_c p (W ^ (64 * s + 32)) (-1) := by
  rw [Int.pow_add]
  exact nt_c_mul (nt_W64s hW s) hW
/-- what a block of length h holds -/
def nt_G (A : Nat → Int) (W : Int) (h u q : Nat) : Int := nt_s h (fun t => A (t * u + nt_rev (q / h * h)) * W ^ (q % h * t * u))
theorem nt_G_lo {A : Nat → Int} {W : Int} {h u q o ρ : Nat} (hq : q % (2 * h) = q % h) (ho : o % h = q % h)
    (h0 : nt_rev (q / (2 * h) * (2 * h)) = ρ) (h1 : nt_rev (q / h * h) = ρ) (h2 : nt_rev (o / h * h) = ρ + u) :
    nt_G A W (2 * h) u q = nt_G A W h (2 * u) q + W ^ (q % h * u) * nt_G A W h (2 * u) o := by
  unfold nt_G
  rw [h0, h1, h2, hq, ho, nt_s_eo, ← nt_s_mul]
  generalize q % h = j
  congr 1
  · refine nt_s_c _ _ _ (fun s _ => ?_)
    rw [show 2 * s * u = s * (2 * u) by grind, show j * (2 * s) * u = j * s * (2 * u) by grind]
  · refine nt_s_c _ _ _ (fun s _ => ?_)
    rw [show (2 * s + 1) * u + ρ = s * (2 * u) + (ρ + u) by grind, show j * (2 * s + 1) * u = j * u + j * s * (2 * u) by grind, Int.pow_add]
    grind
theorem nt_G_hi {A : Nat → Int} {p W : Int} (hW : nt_c p (W ^ 32) (-1)) {h u q e ρ : Nat} (hu : h * u = 32) (hq : q % (2 * h) = q % h + h) (he : e % h = q % h)
    (h0 : nt_rev (q / (2 * h) * (2 * h)) = ρ) (h1 : nt_rev (e / h * h) = ρ) (h2 : nt_rev (q / h * h) = ρ + u) :
    nt_c p (nt_G A W (2 * h) u q) (nt_G A W h (2 * u) e - W ^ (q % h * u) * nt_G A W h (2 * u) q) := by
  unfold nt_G
  rw [h0, h1, h2, hq, he, nt_s_eo, ← nt_s_mul]
  generalize q % h = j
  rw [show ∀ x y : Int, x - y = x + (-1) * y from fun x y => by omega, ← nt_s_mul]
  refine nt_c_add (nt_c_sum _ _ _ (fun s _ => ?_)) (nt_c_sum _ _ _ (fun s _ => ?_))
  · rw [show 2 * s * u = s * (2 * u) by grind, show (j + h) * (2 * s) * u = j * s * (2 * u) + 64 * s by grind, Int.pow_add]
    have g := nt_W64s hW s
    have g2 := nt_c_mul (nt_c_r p (A (s * (2 * u) + ρ) * W ^ (j * s * (2 * u)))) g
    rw [Int.mul_one, Int.mul_assoc] at g2
    exact g2
  · rw [show (2 * s + 1) * u + ρ = s * (2 * u) + (ρ + u) by grind, show (j + h) * (2 * s + 1) * u = (j * u + j * s * (2 * u)) + (64 * s + 32) by grind, Int.pow_add, Int.pow_add]
    have g := nt_W32s hW s
    have g2 := nt_c_mul (nt_c_r p (A (s * (2 * u) + (ρ + u)) * (W ^ (j * u) * W ^ (j * s * (2 * u))))) g
    refine nt_c_t (nt_c_e ?_) (nt_c_t g2 (nt_c_e ?_))
    · grind
    · grind
theorem nt_G_0 (A : Nat → Int) (W : Int) (q : Nat) : nt_G A W 1 64 q = A (nt_rev q) := by
  show (0 : Int) + A (0 * 64 + nt_rev (q / 1 * 1)) * W ^ (q % 1 * 0 * 64) = _
  rw [Nat.div_one, Nat.mul_one, Nat.zero_mul, Nat.zero_add, Nat.mul_zero, Nat.zero_mul, Int.pow_zero, Int.mul_one, Int.zero_add]
theorem nt_G_6 (A : Nat → Int) (W : Int) {q : Nat} (hq : q < 64) : nt_G A W 64 1 q = nt_s 64 (fun t => A t * W ^ (q * t)) := by
  unfold nt_G
  refine nt_s_c _ _ _ (fun t _ => ?_)
  rw [Nat.div_eq_of_lt hq, Nat.mod_eq_of_lt hq, Nat.zero_mul, show nt_rev 0 = 0 from rfl, Nat.mul_one, Nat.mul_one, Nat.add_zero]
/-- the two facts on places that a level needs -/
theorem nt_pl {h u q : Nat} (H : (h = 1 ∧ u = 32) ∨ (h = 2 ∧ u = 16) ∨ (h = 4 ∧ u = 8) ∨ (h = 8 ∧ u = 4) ∨ (h = 16 ∧ u = 2) ∨ (h = 32 ∧ u = 1)) (hq : q < 64) :
    (q % (2 * h) < h → q % (2 * h) = q % h ∧ (q + h) % h = q % h ∧ nt_rev (q / h * h) = nt_rev (q / (2 * h) * (2 * h)) ∧ nt_rev ((q + h) / h * h) = nt_rev (q / (2 * h) * (2 * h)) + u) ∧
    (¬ q % (2 * h) < h → q % (2 * h) = q % h + h ∧ (q - h) % h = q % h ∧ nt_rev ((q - h) / h * h) = nt_rev (q / (2 * h) * (2 * h)) ∧ nt_rev (q / h * h) = nt_rev (q / (2 * h) * (2 * h)) + u) := by
  have D : ∀ q : Fin 64, ∀ l : Fin 6, (q.val % (2 * 2 ^ l.val) < 2 ^ l.val → q.val % (2 * 2 ^ l.val) = q.val % 2 ^ l.val ∧ (q.val + 2 ^ l.val) % 2 ^ l.val = q.val % 2 ^ l.val ∧ nt_rev (q.val / 2 ^ l.val * 2 ^ l.val) = nt_rev (q.val / (2 * 2 ^ l.val) * (2 * 2 ^ l.val)) ∧ nt_rev ((q.val + 2 ^ l.val) / 2 ^ l.val * 2 ^ l.val) = nt_rev (q.val / (2 * 2 ^ l.val) * (2 * 2 ^ l.val)) + 2 ^ (5 - l.val)) ∧
    (¬ q.val % (2 * 2 ^ l.val) < 2 ^ l.val → q.val % (2 * 2 ^ l.val) = q.val % 2 ^ l.val + 2 ^ l.val ∧ (q.val - 2 ^ l.val) % 2 ^ l.val = q.val % 2 ^ l.val ∧ nt_rev ((q.val - 2 ^ l.val) / 2 ^ l.val * 2 ^ l.val) = nt_rev (q.val / (2 * 2 ^ l.val) * (2 * 2 ^ l.val)) ∧ nt_rev (q.val / 2 ^ l.val * 2 ^ l.val) = nt_rev (q.val / (2 * 2 ^ l.val) * (2 * 2 ^ l.val)) + 2 ^ (5 - l.val)) := by
    decide +kernel
  rcases H with ⟨rfl, rfl⟩ | ⟨rfl, rfl⟩ | ⟨rfl, rfl⟩ | ⟨rfl, rfl⟩ | ⟨rfl, rfl⟩ | ⟨rfl, rfl⟩
  · exact D ⟨q, hq⟩ 0
  · exact D ⟨q, hq⟩ 1
  · exact D ⟨q, hq⟩ 2
  · exact D ⟨q, hq⟩ 3
  · exact D ⟨q, hq⟩ 4
  · exact D ⟨q, hq⟩ 5
/-- one level of butterflies -/
theorem nt_level {A : Nat → Int} {p W : Int} (hW : nt_c p (W ^ 32) (-1)) {h u : Nat}
    (H : (h = 1 ∧ u = 32) ∨ (h = 2 ∧ u = 16) ∨ (h = 4 ∧ u = 8) ∨ (h = 8 ∧ u = 4) ∨ (h = 16 ∧ u = 2) ∨ (h = 32 ∧ u = 1)) (g g' : Nat → Int)
    (hg : ∀ q, q < 64 → nt_c p (g q) (nt_G A W h (2 * u) q))
    (lo : ∀ q, q < 64 → q % (2 * h) < h → nt_c p (g' q) (g q + W ^ (q % h * u) * g (q + h)))
    (hi : ∀ q, q < 64 → ¬ q % (2 * h) < h → nt_c p (g' q) (g (q - h) - W ^ (q % h * u) * g q)) :
    ∀ q, q < 64 → nt_c p (g' q) (nt_G A W (2 * h) u q) := by
  intro q hq
  have P := nt_pl H hq
  have hu : h * u = 32 := by rcases H with ⟨rfl, rfl⟩ | ⟨rfl, rfl⟩ | ⟨rfl, rfl⟩ | ⟨rfl, rfl⟩ | ⟨rfl, rfl⟩ | ⟨rfl, rfl⟩ <;> rfl
  by_cases c : q % (2 * h) < h
  · obtain ⟨a1, a2, a3, a4⟩ := P.1 c
    have hb : q + h < 64 := by rcases H with ⟨rfl, rfl⟩ | ⟨rfl, rfl⟩ | ⟨rfl, rfl⟩ | ⟨rfl, rfl⟩ | ⟨rfl, rfl⟩ | ⟨rfl, rfl⟩ <;> omega
    refine nt_c_t (lo q hq c) ?_
    rw [nt_G_lo a1 a2 rfl a3 a4]
    exact nt_c_add (hg q hq) (nt_c_mul (nt_c_r _ _) (hg (q + h) hb))
  · obtain ⟨a1, a2, a3, a4⟩ := P.2 c
    refine nt_c_t (hi q hq c) ?_
    refine nt_c_t ?_ (nt_c_s (nt_G_hi hW hu a1 a2 rfl a3 a4))
    exact nt_c_sub (hg (q - h) (by omega)) (nt_c_mul (nt_c_r _ _) (hg q hq))
end
section
/-! convolution by transforms; three residues make a number -/
def nt_o (w r : Nat) : Nat → Nat
  | 0 => 0
  | k + 1 => nt_o w r k + w ^ (k * r)
theorem nt_o_s (w r n : Nat) : ((nt_o w r n : Nat) : Int) = nt_s n (fun k => (w : Int) ^ (k * r)) := by
  induction n with
  | zero => rfl
  | succ n ih =>
    show ((nt_o w r n + w ^ (n * r) : Nat) : Int) = nt_s n (fun k => (w : Int) ^ (k * r)) + (w : Int) ^ (n * r)
    rw [Int.natCast_add, Int.natCast_pow, ih]
theorem nt_orth {p w : Nat} (hW : nt_c p ((w : Int) ^ 32) (-1)) (hO : ∀ r, r < 64 → r ≠ 0 → nt_o w r 64 % p = 0) (m : Nat) :
    nt_c p (nt_s 64 (fun k => (w : Int) ^ (k * m))) (if m % 64 = 0 then 64 else 0) := by
  have h1 : nt_c p (nt_s 64 (fun k => (w : Int) ^ (k * m))) (nt_s 64 (fun k => (w : Int) ^ (k * (m % 64)))) := by
    refine nt_c_sum _ _ _ (fun k _ => ?_)
    have e : k * m = k * (m % 64) + 64 * (k * (m / 64)) := by
      have h := Nat.div_add_mod m 64
      generalize m % 64 = r at *
      generalize m / 64 = s at *
      subst h
      grind
    rw [e, Int.pow_add]
    have g := nt_c_mul (nt_c_r p ((w : Int) ^ (k * (m % 64)))) (nt_W64s hW (k * (m / 64)))
    rw [Int.mul_one] at g
    exact g
  by_cases e : m % 64 = 0
  · rw [if_pos e]
    refine nt_c_t h1 (nt_c_e ?_)
    rw [e, nt_s_c 64 _ (fun _ => 1) (fun k _ => by rw [Nat.mul_zero, Int.pow_zero])]
    rfl
  · rw [if_neg e]
    refine nt_c_t h1 ?_
    rw [← nt_o_s]
    have h := nt_c_mod p (nt_o w (m % 64) 64)
    rw [hO (m % 64) (Nat.mod_lt _ (by decide)) e] at h
    exact nt_c_s h
theorem nt_conv {p w : Nat} (hW : nt_c p ((w : Int) ^ 32) (-1)) (hO : ∀ r, r < 64 → r ≠ 0 → nt_o w r 64 % p = 0)
    (a b F G C : Nat → Int) (V : Int) (hV : nt_c p V ((w : Int) ^ 63))
    (hF : ∀ k, k < 64 → nt_c p (F k) (nt_s 64 (fun i => a i * (w : Int) ^ (k * i))))
    (hG : ∀ k, k < 64 → nt_c p (G k) (nt_s 64 (fun i => b i * (w : Int) ^ (k * i))))
    (ha : ∀ i, 24 ≤ i → a i = 0) (hb : ∀ i, 24 ≤ i → b i = 0)
    (hC : ∀ k, k < 64 → nt_c p (C k) (F k * G k)) {n : Nat} (hn : n < 64) :
    nt_c p (nt_s 64 (fun k => C k * V ^ (n * k))) (64 * nt_s 24 (fun i => nt_s 24 (fun j => if i + j = n then a i * b j else 0))) := by
  have s1 : nt_c p (nt_s 64 (fun k => C k * V ^ (n * k))) (nt_s 64 (fun k => nt_s 24 (fun i => nt_s 24 (fun j => a i * b j * (w : Int) ^ (k * (i + j + 63 * n)))))) := by
    refine nt_c_sum _ _ _ (fun k hk => ?_)
    have f := hF k hk
    have g := hG k hk
    rw [nt_s_ext (m := 24) _ 64 (by decide) (fun i h _ => by rw [ha i h, Int.zero_mul])] at f
    rw [nt_s_ext (m := 24) _ 64 (by decide) (fun i h _ => by rw [hb i h, Int.zero_mul])] at g
    refine nt_c_t (nt_c_mul (nt_c_t (hC k hk) (nt_c_mul f g)) (nt_c_pow hV (n * k))) (nt_c_e ?_)
    rw [← Int.pow_mul, ← nt_s_mulr, ← nt_s_mulr]
    refine nt_s_c _ _ _ (fun i _ => ?_)
    rw [← nt_s_mul, ← nt_s_mulr]
    refine nt_s_c _ _ _ (fun j _ => ?_)
    rw [show k * (i + j + 63 * n) = k * i + k * j + 63 * (n * k) by grind, Int.pow_add, Int.pow_add]
    grind
  refine nt_c_t s1 ?_
  rw [nt_s_swap, ← nt_s_mul]
  refine nt_c_sum _ _ _ (fun i hi => ?_)
  rw [nt_s_swap, ← nt_s_mul]
  refine nt_c_sum _ _ _ (fun j hj => ?_)
  rw [nt_s_mul]
  have h := nt_c_mul (nt_c_r p (a i * b j)) (nt_orth hW hO (i + j + 63 * n))
  refine nt_c_t h (nt_c_e ?_)
  by_cases e : i + j = n
  · rw [if_pos e, if_pos (by omega), Int.mul_comm]
  · rw [if_neg e, if_neg (by omega), Int.mul_zero, Int.mul_zero]
/-- the sums of digit products -/
def nt_cv (x y : Nat → Nat) (n : Nat) : Int := nt_s 24 (fun i => nt_s 24 (fun j => if i + j = n then (x i : Int) * (y j : Int) else 0))
theorem nt_cv_bd {x y : Nat → Nat} (hx : ∀ i, x i ≤ 35) (hy : ∀ i, y i ≤ 35) (n : Nat) : 0 ≤ nt_cv x y n ∧ nt_cv x y n ≤ 705600 := by
  have h : ∀ i, i < 24 → 0 ≤ nt_s 24 (fun j => if i + j = n then (x i : Int) * (y j : Int) else 0) ∧ nt_s 24 (fun j => if i + j = n then (x i : Int) * (y j : Int) else 0) ≤ 29400 := by
    intro i _
    have g := nt_s_bd 24 1225 (fun j => if i + j = n then (x i : Int) * (y j : Int) else 0) (fun j _ => ?_)
    · exact ⟨g.1, Int.le_trans g.2 (by decide)⟩
    · show 0 ≤ (if i + j = n then (x i : Int) * (y j : Int) else 0) ∧ (if i + j = n then (x i : Int) * (y j : Int) else 0) ≤ 1225
      have m : x i * y j ≤ 35 * 35 := Nat.mul_le_mul (hx i) (hy j)
      have e : (x i : Int) * (y j : Int) = ((x i * y j : Nat) : Int) := (Int.natCast_mul _ _).symm
      rw [e]
      split <;> omega
  have g := nt_s_bd 24 29400 _ h
  exact ⟨g.1, Int.le_trans g.2 (by decide)⟩
theorem nt_val (B : Nat) : ∀ (n : Nat) (d : Nat → Nat), ((rb_val B n d : Nat) : Int) = nt_s n (fun i => (d i : Int) * (B : Int) ^ i) := by
  intro n
  induction n with
  | zero => intro d; rfl
  | succ n ih =>
    intro d
    show ((d 0 + B * rb_val B n (fun i => d (i + 1)) : Nat) : Int) = _
    rw [Int.natCast_add, Int.natCast_mul, ih, nt_s_left, ← nt_s_mul, Int.pow_zero, Int.mul_one]
    congr 1
    refine nt_s_c _ _ _ (fun i _ => ?_)
    rw [Int.pow_succ]
    grind
theorem nt_prod {B x y : Nat} (hx : x < B ^ 24) (hy : y < B ^ 24) : rb_val B 64 (fun n => (nt_cv (rb_d B x) (rb_d B y) n).toNat) = x * y := by
  have hnn : ∀ n, 0 ≤ nt_cv (rb_d B x) (rb_d B y) n := by
    intro n
    have h : ∀ (m : Nat) (f : Nat → Int), (∀ i, 0 ≤ f i) → 0 ≤ nt_s m f := by
      intro m f hf
      induction m with
      | zero => exact Int.le_refl _
      | succ m ih => exact Int.add_nonneg ih (hf m)
    refine h _ _ (fun i => h _ _ (fun j => ?_))
    show 0 ≤ (if i + j = n then (rb_d B x i : Int) * (rb_d B y j : Int) else 0)
    have e : (rb_d B x i : Int) * (rb_d B y j : Int) = ((rb_d B x i * rb_d B y j : Nat) : Int) := (Int.natCast_mul _ _).symm
    rw [e]
    split <;> omega
  apply Int.ofNat.inj
  rw [Int.ofNat_eq_natCast, Int.ofNat_eq_natCast, nt_val, Int.natCast_mul]
  have ex : (x : Int) = nt_s 24 (fun i => (rb_d B x i : Int) * (B : Int) ^ i) := by rw [← nt_val, rb_val_of 24 x hx]
  have ey : (y : Int) = nt_s 24 (fun i => (rb_d B y i : Int) * (B : Int) ^ i) := by rw [← nt_val, rb_val_of 24 y hy]
  rw [ex, ey, ← nt_s_mulr]
  rw [nt_s_c 64 _ (fun n => nt_s 24 (fun i => nt_s 24 (fun j => (if i + j = n then (rb_d B x i : Int) * (rb_d B y j : Int) else 0) * (B : Int) ^ n))) (fun n _ => by
    rw [Int.toNat_of_nonneg (hnn n)]
    unfold nt_cv
    rw [← nt_s_mulr]
    exact nt_s_c _ _ _ (fun i _ => by rw [← nt_s_mulr]))]
  rw [nt_s_swap]
  refine nt_s_c _ _ _ (fun i hi => ?_)
  rw [nt_s_swap, ← nt_s_mul]
  refine nt_s_c _ _ _ (fun j hj => ?_)
  rw [nt_s_one (k := i + j) _ (by omega) (fun n _ hn => by rw [if_neg (by omega), Int.zero_mul]), if_pos rfl, Int.pow_add]
  grind
/-- three residues -/
theorem nt_crt1 {c x y k : Nat} (hx : x = c % 193) (hy : y = c % 257) (hk : k = (y + 257 - x) * 4 % 257) : x + 193 * k = c % 49601 := by
  have h1 : (x + 193 * k) % 193 = c % 49601 % 193 := by omega
  have h2 : (x + 193 * k) % 257 = c % 49601 % 257 := by omega
  have h3 : x + 193 * k < 49601 := by omega
  have h4 : c % 49601 < 49601 := by omega
  generalize x + 193 * k = a at *
  generalize c % 49601 = b at *
  omega
theorem nt_crt2 {c w z k : Nat} (hc : c < 22270849) (hw : w = c % 49601) (hz : z = c % 449) (hk : k = (z + 449 - w % 449) * 266 % 449) : w + 49601 * k = c := by
  have h1 : (w + 49601 * k) % 49601 = c % 49601 := by omega
  have h2 : (w + 49601 * k) % 449 = c % 449 := by omega
  have h3 : w + 49601 * k < 22270849 := by omega
  generalize w + 49601 * k = a at *
  omega
end
section
/-! square roots by Newton's rule; common divisors; counting divisions -/
theorem nw_sqrt (a : Nat) : ∃ s, s * s ≤ a ∧ a < (s + 1) * (s + 1) := by
  induction a with
  | zero => exact ⟨0, by decide, by decide⟩
  | succ a ih =>
    obtain ⟨s, h1, h2⟩ := ih
    by_cases e : a + 1 < (s + 1) * (s + 1)
    · exact ⟨s, by omega, e⟩
    · refine ⟨s + 1, by omega, ?_⟩
      have : (s + 1) * (s + 1) < (s + 1 + 1) * (s + 1 + 1) := Nat.mul_self_lt_mul_self (by omega)
      omega
theorem nw_le {a s c : Nat} (h2 : a < (s + 1) * (s + 1)) (hc : c * c ≤ a) : c ≤ s := by
  refine Nat.le_of_not_lt fun h => ?_
  have : (s + 1) * (s + 1) ≤ c * c := Nat.mul_le_mul h h
  omega
theorem nw_ge {a s x : Nat} (h1 : s * s ≤ a) (hx : 0 < x) : s ≤ (a / x + x) / 2 := by
  have key : 2 * s ≤ a / x + x := by
    by_cases c : 2 * s ≤ x
    · exact Nat.le_trans c (Nat.le_add_left _ _)
    · have hk : (2 * s - x) * x ≤ s * s := by
        by_cases e : x ≤ s
        · obtain ⟨m, rfl⟩ : ∃ m, s = x + m := ⟨s - x, by omega⟩
          rw [show 2 * (x + m) - x = x + 2 * m by omega]
          have e1 : (x + m) * (x + m) = (x + 2 * m) * x + m * m := by grind
          omega
        · obtain ⟨m, rfl⟩ : ∃ m, x = s + m := ⟨x - s, by omega⟩
          obtain ⟨k, hk⟩ : ∃ k, s = m + k := ⟨s - m, by omega⟩
          rw [show 2 * s - (s + m) = k by omega]
          subst hk
          have e1 : (m + k) * (m + k) = k * (m + k + m) + m * m := by grind
          omega
      have := (Nat.le_div_iff_mul_le hx).mpr (Nat.le_trans hk h1)
      omega
  omega
theorem nw_stop {a s x : Nat} (h2 : a < (s + 1) * (s + 1)) (hx : 0 < x) (h : x ≤ (a / x + x) / 2) : x ≤ s :=
  nw_le h2 ((Nat.le_div_iff_mul_le hx).mp (by omega))
theorem nw_step {a s d d' : Nat} (h2 : a < (s + 1) * (s + 1)) (e : s + d' = (a / (s + d) + (s + d)) / 2) : 2 * (s + d) * d' ≤ d * d + 2 * s := by
  have h3 : a / (s + d) * (s + d) ≤ a := Nat.div_mul_le_self _ _
  have h4 : 2 * (s + d') ≤ a / (s + d) + (s + d) := by omega
  generalize a / (s + d) = q at *
  have m := Nat.mul_le_mul_left (s + d) h4
  have e1 : (s + d) * (2 * (s + d')) = 2 * (s * s) + 2 * (s * d) + 2 * (s + d) * d' := by grind
  have e2 : (s + d) * (q + (s + d)) = q * (s + d) + (s * s + 2 * (s * d) + d * d) := by grind
  have e3 : (s + 1) * (s + 1) = s * s + 2 * s + 1 := by grind
  rw [e1, e2] at m
  rw [e3] at h2
  generalize 2 * (s + d) * d' = A at *
  generalize s * s = C at *
  generalize s * d = D at *
  generalize d * d = E at *
  generalize q * (s + d) = F at *
  omega
theorem nw_A {s d d' : Nat} (hs : 0 < s) (h : 2 * (s + d) * d' ≤ d * d + 2 * s) : 2 * d' ≤ d + 2 := by
  refine Nat.le_of_mul_le_mul_left (c := s + d) ?_ (by omega)
  have e1 : (s + d) * (2 * d') = 2 * (s + d) * d' := by grind
  have e2 : (s + d) * (d + 2) = s * d + d * d + 2 * s + 2 * d := by grind
  rw [e1, e2]
  generalize 2 * (s + d) * d' = A at *
  generalize s * d = D at *
  generalize d * d = E at *
  omega
theorem nw_B {s d d' M : Nat} (hs : 8 ≤ s) (hM : 4 ≤ M) (h : 2 * (s + d) * d' ≤ d * d + 2 * s) (hd : M * d ≤ s + 2 * M) : 2 * (M * M) * d' ≤ s + 2 * (2 * (M * M)) := by
  refine Nat.le_of_mul_le_mul_left (c := s) ?_ (by omega)
  have m1 := Nat.mul_le_mul_left (M * M) h
  have m2 := Nat.mul_le_mul hd hd
  have m3 : s * M * 4 ≤ s * M * M := Nat.mul_le_mul_left _ hM
  have m4 : 8 * (M * M) ≤ s * (M * M) := Nat.mul_le_mul_right _ hs
  have e1 : M * M * (2 * (s + d) * d') = s * (2 * (M * M) * d') + 2 * (M * M) * (d * d') := by grind
  have e2 : M * M * (d * d + 2 * s) = M * d * (M * d) + 2 * (s * (M * M)) := by grind
  have e3 : (s + 2 * M) * (s + 2 * M) = s * s + 4 * (s * M) + 4 * (M * M) := by grind
  have e4 : s * (s + 2 * (2 * (M * M))) = s * s + 4 * (s * (M * M)) := by grind
  have e5 : s * M * M = s * (M * M) := by grind
  rw [e1, e2] at m1
  rw [e3] at m2
  rw [e5] at m3
  rw [e4]
  generalize s * (2 * (M * M) * d') = A at *
  generalize 2 * (M * M) * (d * d') = C at *
  generalize M * d * (M * d) = D at *
  generalize s * (M * M) = E at *
  generalize M * M = F at *
  generalize s * s = G at *
  generalize s * M = K at *
  omega
/-- forty rounds are never used up -/
theorem nw_forty {s : Nat} (D : Nat → Nat) (hs : 0 < s) (hs2 : s < 9223372036854775808) (h0 : D 0 ≤ 36 * s)
    (st : ∀ k, k < 40 → 2 * (s + D k) * D (k + 1) ≤ D k * D k + 2 * s) (dec : ∀ k, k < 40 → D (k + 1) < D k) : False := by
  have a0 : 2 * D 1 ≤ D 0 + 2 := nw_A hs (st 0 (by decide))
  have a1 : 2 * D 2 ≤ D 1 + 2 := nw_A hs (st 1 (by decide))
  have a2 : 2 * D 3 ≤ D 2 + 2 := nw_A hs (st 2 (by decide))
  have a3 : 2 * D 4 ≤ D 3 + 2 := nw_A hs (st 3 (by decide))
  have a4 : 2 * D 5 ≤ D 4 + 2 := nw_A hs (st 4 (by decide))
  have a5 : 2 * D 6 ≤ D 5 + 2 := nw_A hs (st 5 (by decide))
  have a6 : 2 * D 7 ≤ D 6 + 2 := nw_A hs (st 6 (by decide))
  have a7 : 2 * D 8 ≤ D 7 + 2 := nw_A hs (st 7 (by decide))
  have a8 : 2 * D 9 ≤ D 8 + 2 := nw_A hs (st 8 (by decide))
  have a9 : 2 * D 10 ≤ D 9 + 2 := nw_A hs (st 9 (by decide))
  have b10 : D 11 < D 10 := dec 10 (by decide)
  have b11 : D 12 < D 11 := dec 11 (by decide)
  have b12 : D 13 < D 12 := dec 12 (by decide)
  have b13 : D 14 < D 13 := dec 13 (by decide)
  have b14 : D 15 < D 14 := dec 14 (by decide)
  have b15 : D 16 < D 15 := dec 15 (by decide)
  have b16 : D 17 < D 16 := dec 16 (by decide)
  have c10 : 1024 * D 10 ≤ 36 * s + 2046 := by omega
  clear a0 a1 a2 a3 a4 a5 a6 a7 a8 a9 h0
  by_cases c : s < 64
  · omega
  · have d10 : 8 * D 10 ≤ s + 2 * 8 := by omega
    have d11 : 128 * D 11 ≤ s + 2 * 128 := nw_B (by omega) (by decide) (st 10 (by decide)) d10
    have d12 : 32768 * D 12 ≤ s + 2 * 32768 := nw_B (M := 128) (by omega) (by decide) (st 11 (by decide)) d11
    have d13 : 2147483648 * D 13 ≤ s + 2 * 2147483648 := nw_B (M := 32768) (by omega) (by decide) (st 12 (by decide)) d12
    have d14 : 9223372036854775808 * D 14 ≤ s + 2 * 9223372036854775808 := nw_B (M := 2147483648) (by omega) (by decide) (st 13 (by decide)) d13
    omega
/-- Newton's values -/
def nw_x (a x : Nat) : Nat → Nat
  | 0 => x
  | k + 1 => (a / nw_x a x k + nw_x a x k) / 2
theorem nw_x_ge {a s x : Nat} (h1 : s * s ≤ a) (hs : 0 < s) (hx : s ≤ x) : ∀ k, s ≤ nw_x a x k := by
  intro k
  cases k with
  | zero => exact hx
  | succ k =>
    have : ∀ k, 0 < nw_x a x k := by
      intro k
      induction k with
      | zero => exact Nat.lt_of_lt_of_le hs hx
      | succ k ih => exact Nat.lt_of_lt_of_le hs (nw_ge h1 ih)
    exact nw_ge h1 (this k)
theorem nw_end {a s x : Nat} (h1 : s * s ≤ a) (h2 : a < (s + 1) * (s + 1)) (hs : 0 < s) (hs2 : s < 9223372036854775808) (hx : s ≤ x) (h0 : x ≤ 36 * s)
    (dec : ∀ k, k < 40 → nw_x a x (k + 1) < nw_x a x k) : False := by
  have ge := nw_x_ge h1 hs hx
  refine nw_forty (s := s) (fun k => nw_x a x k - s) hs hs2 (by show x - s ≤ 36 * s; omega) (fun k hk => ?_) (fun k hk => ?_)
  · refine nw_step (a := a) h2 ?_
    have g1 := ge k
    have g2 := ge (k + 1)
    show s + (nw_x a x (k + 1) - s) = (a / (s + (nw_x a x k - s)) + (s + (nw_x a x k - s))) / 2
    rw [show s + (nw_x a x (k + 1) - s) = nw_x a x (k + 1) by omega, show s + (nw_x a x k - s) = nw_x a x k by omega]
    rfl
  · have g1 := ge k
    have g2 := ge (k + 1)
    have g3 := dec k hk
    show nw_x a x (k + 1) - s < nw_x a x k - s
    omega
/-- Fibonacci numbers -/
def fb_f : Nat → Nat
  | 0 => 0
  | 1 => 1
  | n + 2 => fb_f (n + 1) + fb_f n
theorem fb_pos : ∀ n, 0 < fb_f (n + 1) := by
  intro n
  induction n with
  | zero => decide
  | succ n ih => show 0 < fb_f (n + 1) + fb_f n; omega
theorem fb_4 : ∀ m, fb_f (3 * m) ≤ fb_f (3 * m + 1) ∧ 4 ^ m ≤ fb_f (3 * m + 2) := by
  intro m
  induction m with
  | zero => decide
  | succ m ih =>
    obtain ⟨h1, h2⟩ := ih
    have e1 : fb_f (3 * m + 2) = fb_f (3 * m + 1) + fb_f (3 * m) := rfl
    have e2 : fb_f (3 * m + 3) = fb_f (3 * m + 2) + fb_f (3 * m + 1) := rfl
    have e3 : fb_f (3 * m + 4) = fb_f (3 * m + 3) + fb_f (3 * m + 2) := rfl
    have e4 : fb_f (3 * m + 5) = fb_f (3 * m + 4) + fb_f (3 * m + 3) := rfl
    have g : fb_f (3 * (m + 1) + 1) = fb_f (3 * m + 4) := congrArg fb_f (by omega)
    have g' : fb_f (3 * (m + 1)) = fb_f (3 * m + 3) := congrArg fb_f (by omega)
    have g2 : fb_f (3 * (m + 1) + 2) = fb_f (3 * m + 5) := congrArg fb_f (by omega)
    rw [g, g', g2, Nat.pow_succ]
    omega
def fb_st (x : Nat × Nat) : Nat × Nat := if x.2 = 0 then x else (x.2, x.1 % x.2)
def fb_it : Nat → Nat × Nat → Nat × Nat
  | 0, x => x
  | k + 1, x => fb_st (fb_it k x)
theorem fb_it_f (k : Nat) (x : Nat × Nat) : fb_it (k + 1) x = fb_it k (fb_st x) := by
  induction k with
  | zero => rfl
  | succ k ih => show fb_st (fb_it (k + 1) x) = fb_st (fb_it k (fb_st x)); rw [ih]
theorem fb_lame : ∀ k a b, b ≤ a → 0 < (fb_it k (a, b)).2 → fb_f (k + 1) ≤ b ∧ fb_f (k + 2) ≤ a := by
  intro k
  induction k with
  | zero =>
    intro a b h h0
    have h1 : 0 < b := h0
    exact ⟨h1, Nat.le_trans h1 h⟩
  | succ k ih =>
    intro a b h h0
    rw [fb_it_f] at h0
    by_cases c : b = 0
    · have e : fb_st (a, b) = (a, b) := if_pos c
      rw [e] at h0
      have := (ih a b h h0).1
      have := fb_pos k
      omega
    · have e : fb_st (a, b) = (b, a % b) := if_neg c
      rw [e] at h0
      have g := ih b (a % b) (Nat.le_of_lt (Nat.mod_lt _ (by omega))) h0
      refine ⟨g.2, ?_⟩
      show fb_f (k + 2) + fb_f (k + 1) ≤ a
      have h1 : b + a % b ≤ a := by
        have h2 := Nat.div_add_mod a b
        have h3 : b * 1 ≤ b * (a / b) := Nat.mul_le_mul_left b (Nat.div_pos h (by omega))
        omega
      omega
theorem fb_200 (a b : Nat) (hb : b ≤ 36 ^ 24) : (fb_it 200 (a, b)).2 = 0 := by
  refine Nat.eq_zero_of_not_pos fun h => ?_
  rw [fb_it_f] at h
  by_cases c : b = 0
  · have e : fb_st (a, b) = (a, b) := if_pos c
    rw [e] at h
    have hz : ∀ k, fb_it k (a, b) = (a, b) := by
      intro k
      induction k with
      | zero => rfl
      | succ k ih => show fb_st (fb_it k (a, b)) = (a, b); rw [ih, e]
    rw [hz] at h
    have h' : 0 < b := h
    omega
  · have e : fb_st (a, b) = (b, a % b) := if_neg c
    rw [e] at h
    have g := (fb_lame 199 b (a % b) (Nat.le_of_lt (Nat.mod_lt _ (by omega))) h).2
    have g2 : 4 ^ 66 ≤ fb_f 200 := (fb_4 66).2
    have g3 : fb_f (199 + 2) = fb_f 200 + fb_f 199 := rfl
    have g4 : 36 ^ 24 < 4 ^ 66 := by decide
    omega
theorem fb_stay {k : Nat} {x : Nat × Nat} (h : (fb_it k x).2 = 0) : ∀ m, fb_it (k + m) x = fb_it k x := by
  intro m
  induction m with
  | zero => rfl
  | succ m ih =>
    show fb_st (fb_it (k + m) x) = _
    rw [ih]
    exact if_pos h
/-- how often m divides v down before nothing is left, within k rounds -/
def fb_cnt (v m : Nat) : Nat → Nat
  | 0 => 0
  | k + 1 => if v / m ^ k = 0 then fb_cnt v m k else fb_cnt v m k + 1
theorem fb_cnt_st {v m k : Nat} (hm : 0 < m) (h : v / m ^ k = 0) : ∀ j, fb_cnt v m (k + j) = fb_cnt v m k := by
  intro j
  induction j with
  | zero => rfl
  | succ j ih =>
    show (if v / m ^ (k + j) = 0 then fb_cnt v m (k + j) else fb_cnt v m (k + j) + 1) = _
    rw [if_pos (rb_hi0 hm (rb_lt_q hm h) (by omega)), ih]
end
section
/-! arrays filled on a range, the registers of both sides, indices -/
def rb_fil (c : Nat → Int32) (lo hi : Nat) (f : Nat → Int32) : Nat → Int32 := fun k => if lo ≤ k ∧ k < hi then f k else c k
theorem rb_fil0 (c : Nat → Int32) (lo : Nat) (f : Nat → Int32) : rb_fil c lo lo f = c := funext fun k => if_neg (by omega)
theorem rb_filO {c f : Nat → Int32} {lo hi k : Nat} (h : k < lo ∨ hi ≤ k) : rb_fil c lo hi f k = c k := if_neg (by omega)
theorem rb_filI {c f : Nat → Int32} {lo hi k : Nat} (h1 : lo ≤ k) (h2 : k < hi) : rb_fil c lo hi f k = f k := if_pos ⟨h1, h2⟩
theorem rb_filU {c f : Nat → Int32} {lo j : Nat} {x : Int32} (hx : x = f (lo + j)) : upd (rb_fil c lo (lo + j) f) (lo + j) x = rb_fil c lo (lo + (j + 1)) f := by
  subst hx
  funext k
  unfold upd rb_fil
  by_cases e : k = lo + j
  · subst e; rw [if_pos rfl, if_pos (by omega)]
  · rw [if_neg e]
    by_cases g : lo ≤ k ∧ k < lo + j
    · rw [if_pos g, if_pos (by omega)]
    · rw [if_neg g, if_neg (by omega)]
theorem rb_filD {c f : Nat → Int32} {lo hi : Nat} {x : Int32} (h : lo < hi) (hx : x = f lo) : upd (rb_fil c (lo + 1) hi f) lo x = rb_fil c lo hi f := by
  subst hx
  funext k
  unfold upd rb_fil
  by_cases e : k = lo
  · subst e; rw [if_pos rfl, if_pos (by omega)]
  · rw [if_neg e]
    by_cases g : lo + 1 ≤ k ∧ k < hi
    · rw [if_pos g, if_pos (by omega)]
    · rw [if_neg g, if_neg (by omega)]
def rb_up (N : Nat → Nat) (r v : Nat) : Nat → Nat := fun q => if q = r then v else N q
theorem rb_upS (N : Nat → Nat) (r v : Nat) : rb_up N r v r = v := if_pos rfl
theorem rb_upN {N : Nat → Nat} {r v q : Nat} (h : q ≠ r) : rb_up N r v q = N q := if_neg h
/-- the eight registers of the component -/
def rb_RC (B : Nat) (c : Nat → Int32) (N : Nat → Nat) : Prop := ∀ r, r < 8 → N r < B ^ 24 ∧ ∀ i, i < 24 → c (24 * r + i) = nI (rb_d B (N r) i)
/-- the ten rows of the reference -/
def rb_RY (B : Nat) (c : Nat → Int32) (M : Nat → Nat) : Prop := ∀ r, r < 10 → M r < B ^ 50 ∧ ∀ i, i < 50 → c (50 * r + i) = nI (rb_d B (M r) i)
theorem rb_RCf {B : Nat} {c f : Nat → Int32} {N : Nat → Nat} {to v : Nat} (h : rb_RC B c N) (hv : v < B ^ 24) (hf : ∀ i, i < 24 → f (24 * to + i) = nI (rb_d B v i)) :
    rb_RC B (rb_fil c (24 * to) (24 * to + 24) f) (rb_up N to v) := by
  intro r hr
  by_cases e : r = to
  · subst e
    rw [rb_upS]
    exact ⟨hv, fun i hi => (rb_filI (by omega) (by omega)).trans (hf i hi)⟩
  · rw [rb_upN e]
    exact ⟨(h r hr).1, fun i hi => (rb_filO (by omega)).trans ((h r hr).2 i hi)⟩
theorem rb_RYf {B : Nat} {c f : Nat → Int32} {N : Nat → Nat} {to v : Nat} (h : rb_RY B c N) (hv : v < B ^ 50) (hf : ∀ i, i < 50 → f (50 * to + i) = nI (rb_d B v i)) :
    rb_RY B (rb_fil c (50 * to) (50 * to + 50) f) (rb_up N to v) := by
  intro r hr
  by_cases e : r = to
  · subst e
    rw [rb_upS]
    exact ⟨hv, fun i hi => (rb_filI (by omega) (by omega)).trans (hf i hi)⟩
  · rw [rb_upN e]
    exact ⟨(h r hr).1, fun i hi => (rb_filO (by omega)).trans ((h r hr).2 i hi)⟩
/-- a row given digit by digit, the others as they were -/
theorem rb_RCd {B : Nat} {c c' : Nat → Int32} {N : Nat → Nat} {to v : Nat} (h : rb_RC B c N) (hv : v < B ^ 24) (hf : ∀ i, i < 24 → c' (24 * to + i) = nI (rb_d B v i))
    (ho : ∀ k, (k < 24 * to ∨ 24 * to + 24 ≤ k) → c' k = c k) : rb_RC B c' (rb_up N to v) := by
  intro r hr
  by_cases e : r = to
  · subst e
    rw [rb_upS]
    exact ⟨hv, hf⟩
  · rw [rb_upN e]
    exact ⟨(h r hr).1, fun i hi => (ho _ (by omega)).trans ((h r hr).2 i hi)⟩
theorem rb_RYd {B : Nat} {c c' : Nat → Int32} {N : Nat → Nat} {to v : Nat} (h : rb_RY B c N) (hv : v < B ^ 50) (hf : ∀ i, i < 50 → c' (50 * to + i) = nI (rb_d B v i))
    (ho : ∀ k, (k < 50 * to ∨ 50 * to + 50 ≤ k) → c' k = c k) : rb_RY B c' (rb_up N to v) := by
  intro r hr
  by_cases e : r = to
  · subst e
    rw [rb_upS]
    exact ⟨hv, hf⟩
  · rw [rb_upN e]
    exact ⟨(h r hr).1, fun i hi => (ho _ (by omega)).trans ((h r hr).2 i hi)⟩
theorem rb_d31 {B : Nat} (hB : 2 ≤ B) (hB2 : B ≤ 36) (v i : Nat) : rb_d B v i < 36 := Nat.lt_of_lt_of_le (rb_d_lt (by omega) v i) hB2
theorem rx_ix (r j : Nat) : (24 : Int32) * nI r + nI j = nI (24 * r + j) := by
  show nI 24 * nI r + nI j = _
  rw [pk_mul, nI_add]
theorem rx_in {r j : Nat} (hr : r < 8) (hj : j < 24) : vp_in ((24 : Int32) * nI r + nI j) 192 := by rw [rx_ix]; exact vp_in_nI (by omega) (by omega)
theorem rx_cl {r j : Nat} (hr : r < 8) (hj : j < 24) : ((24 : Int32) * nI r + nI j).toNatClampNeg = 24 * r + j := by rw [rx_ix]; exact nI_clamp (by omega)
theorem rx_ix1 (r j : Nat) : (24 : Int32) * nI r + nI (j + 1) - 1 = nI (24 * r + j) := by
  rw [rx_ix, show 24 * r + (j + 1) = (24 * r + j) + 1 from rfl, nI_pred]
theorem rx_in1 {r j : Nat} (hr : r < 8) (hj : j < 24) : vp_in ((24 : Int32) * nI r + nI (j + 1) - 1) 192 := by rw [rx_ix1]; exact vp_in_nI (by omega) (by omega)
theorem rx_cl1 {r j : Nat} (hr : r < 8) (hj : j < 24) : ((24 : Int32) * nI r + nI (j + 1) - 1).toNatClampNeg = 24 * r + j := by rw [rx_ix1]; exact nI_clamp (by omega)
theorem rx_ix0 (r : Nat) : (24 : Int32) * nI r = nI (24 * r) := by
  show nI 24 * nI r = _
  rw [pk_mul]
theorem rx_in0 {r : Nat} (hr : r < 8) : vp_in ((24 : Int32) * nI r) 192 := by rw [rx_ix0]; exact vp_in_nI (by omega) (by omega)
theorem rx_cl0 {r : Nat} (hr : r < 8) : ((24 : Int32) * nI r).toNatClampNeg = 24 * r := by rw [rx_ix0]; exact nI_clamp (by omega)
theorem ry_ix (r j : Nat) : (50 : Int32) * nI r + nI j = nI (50 * r + j) := by
  show nI 50 * nI r + nI j = _
  rw [pk_mul, nI_add]
theorem ry_in {r j : Nat} (hr : r < 10) (hj : j < 50) : vp_in ((50 : Int32) * nI r + nI j) 500 := by rw [ry_ix]; exact vp_in_nI (by omega) (by omega)
theorem ry_cl {r j : Nat} (hr : r < 10) (hj : j < 50) : ((50 : Int32) * nI r + nI j).toNatClampNeg = 50 * r + j := by rw [ry_ix]; exact nI_clamp (by omega)
theorem ry_ix1 (r j : Nat) : (50 : Int32) * nI r + nI (j + 1) - 1 = nI (50 * r + j) := by
  rw [ry_ix, show 50 * r + (j + 1) = (50 * r + j) + 1 from rfl, nI_pred]
theorem ry_in1 {r j : Nat} (hr : r < 10) (hj : j < 50) : vp_in ((50 : Int32) * nI r + nI (j + 1) - 1) 500 := by rw [ry_ix1]; exact vp_in_nI (by omega) (by omega)
theorem ry_cl1 {r j : Nat} (hr : r < 10) (hj : j < 50) : ((50 : Int32) * nI r + nI (j + 1) - 1).toNatClampNeg = 50 * r + j := by rw [ry_ix1]; exact nI_clamp (by omega)
theorem ry_ix0 (r : Nat) : (50 : Int32) * nI r = nI (50 * r) := by
  show nI 50 * nI r = _
  rw [pk_mul]
theorem ry_in0 {r : Nat} (hr : r < 10) : vp_in ((50 : Int32) * nI r) 500 := by rw [ry_ix0]; exact vp_in_nI (by omega) (by omega)
theorem ry_cl0 {r : Nat} (hr : r < 10) : ((50 : Int32) * nI r).toNatClampNeg = 50 * r := by rw [ry_ix0]; exact nI_clamp (by omega)
theorem rb_m1neg : nI 0 + (-1) < 0 := by decide
/-- both sides refuse the same register numbers -/
theorem rb_reg (x : Int32) : (∃ a, a < 4 ∧ x = nI a) ∨ ((∀ post : Int32 → Prop, post 0 → wpX_isRegister post x) ∧ (∀ (post : Int32 → Prop) (f : Int32) (b : Nat → Int32), post 1 → wpY_bad post (f, b) x)) := by
  rcases pk_ix x (n := 4) (by omega) with h | h | ⟨j, hj, rfl⟩
  · exact Or.inr ⟨fun post hp => br_t h hp, fun post f b hp => br_t h hp⟩
  · have h0 : ¬ x < 0 := Int32.not_lt.mpr (Int32.le_trans (by decide) h)
    have h3 : ¬ x ≤ 3 := fun z => absurd (Int32.le_trans h z) (by decide)
    exact Or.inr ⟨fun post hp => br_f h0 (br_t h hp), fun post f b hp => br_f h0 (br_f h3 hp)⟩
  · exact Or.inl ⟨j, hj, rfl⟩
theorem rx_reg {post : Int32 → Prop} {a : Nat} (ha : a < 4) (h : post 1) : wpX_isRegister post (nI a) :=
  br_f (nI_pos (by omega)) (pk_le 4 a (fun z => absurd z (by omega)) (fun _ => h))
theorem ry_reg {post : Int32 → Prop} {f : Int32} {b : Nat → Int32} {a : Nat} (ha : a < 4) (h : post 0) : wpY_bad post (f, b) (nI a) :=
  br_f (nI_pos (by omega)) (pk_le a 3 (fun _ => h) (fun z => absurd z (by omega)))
end
section
/-! the component's small methods -/
section
variable {B : Nat} {c l g s p t o : Nat → Int32} {N : Nat → Nat}
theorem rx_get {a j : Nat} (R : rb_RC B c N) (ha : a < 8) (hj : j < 24) : c ((24 : Int32) * nI a + nI j).toNatClampNeg = nI (rb_d B (N a) j) := by
  rw [rx_cl ha hj]; exact (R a ha).2 j hj
theorem rx_assign_l {post : SX → Prop} {to fr : Nat} (ht : to < 8) (hf : fr < 8) (H : post (nI B, rb_fil c (24 * to) (24 * to + 24) (fun k => c (k - 24 * to + 24 * fr)), l, g, s, p, t, o)) :
    ∀ n j, j ≤ 24 → 24 - j < n → wX_assign_2 post (nI to) (nI fr) (nI B) n (nI j) (rb_fil c (24 * to) (24 * to + j) (fun k => c (k - 24 * to + 24 * fr))) l g s p t o := by
  intro n
  induction n with
  | zero => intro j _ h; omega
  | succ n ih =>
    intro j hj h
    refine pk_le 24 j (fun h1 => ?_) (fun h1 => ?_)
    · obtain rfl : j = 24 := by omega
      exact H
    · refine ⟨rx_in hf h1, rx_in ht h1, nm_r (e' := rb_fil c (24 * to) (24 * to + (j + 1)) (fun k => c (k - 24 * to + 24 * fr))) ?_ (nm_r (nI_1 j) (ih (j + 1) (by omega) (by omega)))⟩
      rw [rx_cl ht h1, rx_cl hf h1]
      exact rb_filU ((rb_filO (by omega)).trans (congrArg c (by omega)))
theorem rx_assign {post : SX → Prop} {to fr : Nat} (ht : to < 8) (hf : fr < 8) (R : rb_RC B c N)
    (H : ∀ c', rb_RC B c' (rb_up N to (N fr)) → post (nI B, c', l, g, s, p, t, o)) : wpX_assign post (nI B, c, l, g, s, p, t, o) (nI to) (nI fr) := by
  refine Exists.intro 25 ?_
  have h := rx_assign_l (l := l) (g := g) (s := s) (p := p) (t := t) (o := o) ht hf (H _ (rb_RCf R (R fr hf).1 (fun i hi => ((congrArg c (by omega)).trans ((R fr hf).2 i hi))))) 25 0 (by omega) (by omega)
  rw [Nat.add_zero, rb_fil0] at h
  exact h
theorem rx_zero_l {post : SX → Prop} {to : Nat} (ht : to < 8) (H : post (nI B, rb_fil c (24 * to) (24 * to + 24) (fun _ => 0), l, g, s, p, t, o)) :
    ∀ n j, j ≤ 24 → 24 - j < n → wX_zero_2 post (nI to) (nI B) n (nI j) (rb_fil c (24 * to) (24 * to + j) (fun _ => 0)) l g s p t o := by
  intro n
  induction n with
  | zero => intro j _ h; omega
  | succ n ih =>
    intro j hj h
    refine pk_le 24 j (fun h1 => ?_) (fun h1 => ?_)
    · obtain rfl : j = 24 := by omega
      exact H
    · refine ⟨rx_in ht h1, nm_r (e' := rb_fil c (24 * to) (24 * to + (j + 1)) (fun _ => 0)) ?_ (nm_r (nI_1 j) (ih (j + 1) (by omega) (by omega)))⟩
      rw [rx_cl ht h1]
      exact rb_filU rfl
theorem rx_zero {post : SX → Prop} {to : Nat} (hB : 2 ≤ B) (ht : to < 8) (R : rb_RC B c N)
    (H : ∀ c', rb_RC B c' (rb_up N to 0) → post (nI B, c', l, g, s, p, t, o)) : wpX_zero post (nI B, c, l, g, s, p, t, o) (nI to) := by
  refine Exists.intro 25 ?_
  have h := rx_zero_l (l := l) (g := g) (s := s) (p := p) (t := t) (o := o) ht (H _ (rb_RCf R (rb_pp (by omega) 24) (fun i hi => by rw [rb_d0]; rfl))) 25 0 (by omega) (by omega)
  rw [Nat.add_zero, rb_fil0] at h
  exact h
theorem rx_len_l {post : Int32 → Prop} {a : Nat} (hB : 2 ≤ B) (hB2 : B ≤ 36) (ha : a < 8) (R : rb_RC B c N) (H : ∀ L, L ≤ 24 → N a < B ^ L → (0 < L → B ^ (L - 1) ≤ N a) → post (nI L)) :
    ∀ n L, L ≤ 24 → L < n → N a < B ^ L → wX_lengthOf_3 post (nI a) (nI B) c l g s p t o n (nI L) := by
  intro n
  induction n with
  | zero => intro L _ h; omega
  | succ n ih =>
    intro L hL h hv
    cases L with
    | zero => exact br_t (show nI 0 ≤ 0 by decide) (H 0 hL hv (fun z => absurd z (by omega)))
    | succ j =>
      have hj : j < 24 := by omega
      refine br_f (nI_nle (by omega) (by omega)) ⟨rx_in1 ha hj, ?_⟩
      rw [rx_cl1 ha hj, (R a ha).2 j hj]
      have h36 := rb_d31 hB hB2 (N a) j
      have hst := rb_st B (N a) j
      rw [rb_hi0 (by omega) hv (Nat.le_refl _), Nat.mul_zero, Nat.zero_add] at hst
      refine pk_eq (rb_d B (N a) j) 0 (fun z => nm_r (pk_m1 j) (ih j (by omega) (by omega) (rb_lt_q (by omega) (hst.trans z)))) (fun z => H (j + 1) hL hv (fun _ => ?_))
      refine Nat.le_of_not_lt fun hlt => z ?_
      rw [← hst]
      exact Nat.div_eq_of_lt hlt
theorem rx_len {post : Int32 → Prop} {a : Nat} (hB : 2 ≤ B) (hB2 : B ≤ 36) (ha : a < 8) (R : rb_RC B c N) (H : ∀ L, L ≤ 24 → N a < B ^ L → (0 < L → B ^ (L - 1) ≤ N a) → post (nI L)) :
    wpX_lengthOf post (nI B, c, l, g, s, p, t, o) (nI a) :=
  Exists.intro 25 (rx_len_l hB hB2 ha R H 25 24 (by omega) (by omega) (R a ha).1)
theorem rx_order_l {post : Int32 → Prop} {a b : Nat} (hB : 2 ≤ B) (hB2 : B ≤ 36) (ha : a < 8) (hb : b < 8) (R : rb_RC B c N)
    (H1 : N a < N b → ∀ d : Int32, d < 0 → post d) (H2 : N a = N b → post 0) (H3 : N b < N a → ∀ d : Int32, 0 < d → post d) :
    ∀ n k, k ≤ 24 → k < n → N a / B ^ k = N b / B ^ k → wX_order_3 post (nI a) (nI b) (nI B) c l g s p t o n (nI k + (-1)) := by
  intro n
  induction n with
  | zero => intro k _ h; omega
  | succ n ih =>
    intro k hk h he
    cases k with
    | zero => exact br_t rb_m1neg (H2 (by rw [rb_q0, rb_q0] at he; exact he))
    | succ j =>
      have hj : j < 24 := by omega
      rw [pk_m1]
      have hx := rb_d31 hB hB2 (N a) j
      have hy := rb_d31 hB hB2 (N b) j
      refine br_f (nI_pos (by omega)) ⟨rx_in ha hj, rx_in hb hj, nm_r (e' := nI (rb_d B (N a) j) - nI (rb_d B (N b) j)) (by rw [rx_get R ha hj, rx_get R hb hj]) ?_⟩
      rcases Nat.lt_trichotomy (rb_d B (N a) j) (rb_d B (N b) j) with q | q | q
      · have hn : nI (rb_d B (N a) j) - nI (rb_d B (N b) j) < 0 := pk_sneg (by omega) q
        exact br_f (fun z => by rw [z] at hn; exact absurd hn (by decide)) (H1 (rb_c_lt he q) _ hn)
      · exact br_t (by rw [q, Int32.sub_self]) (nm_e (ih j (by omega) (by omega) (rb_c_eq he q)))
      · have hn : (0 : Int32) < nI (rb_d B (N a) j) - nI (rb_d B (N b) j) := by
          rw [pk_sub (by omega)]
          exact nI_lt (a := 0) (by omega) (by omega)
        exact br_f (fun z => by rw [z] at hn; exact absurd hn (by decide)) (H3 (rb_c_lt he.symm q) _ hn)
theorem rx_order {post : Int32 → Prop} {a b : Nat} (hB : 2 ≤ B) (hB2 : B ≤ 36) (ha : a < 8) (hb : b < 8) (R : rb_RC B c N)
    (H1 : N a < N b → ∀ d : Int32, d < 0 → post d) (H2 : N a = N b → post 0) (H3 : N b < N a → ∀ d : Int32, 0 < d → post d) :
    wpX_order post (nI B, c, l, g, s, p, t, o) (nI a) (nI b) := by
  refine Exists.intro 25 ?_
  have h := rx_order_l (l := l) (g := g) (s := s) (p := p) (t := t) (o := o) hB hB2 ha hb R H1 H2 H3 25 24 (by omega) (by omega) (by rw [rb_hi0 (by omega) (R a ha).1 (by omega), rb_hi0 (by omega) (R b hb).1 (by omega)])
  exact h
theorem rx_addTo_l {post : Int32 → SX → Prop} {a b : Nat} (hB : 2 ≤ B) (hB2 : B ≤ 36) (ha : a < 8) (hb : b < 8) (hab : a ≠ b) (R : rb_RC B c N)
    (H : post (nI ((N a + N b) / B ^ 24)) (nI B, rb_fil c (24 * a) (24 * a + 24) (fun k => nI (rb_d B (N a + N b) (k - 24 * a))), l, g, s, p, t, o)) :
    ∀ n j y, j ≤ 24 → 24 - j < n → y ≤ 1 → (N a + N b) / B ^ j = 1 * (N a / B ^ j) + N b / B ^ j + y →
      wX_addTo_5 post (nI a) (nI b) (nI B) n (nI y) (nI j) (rb_fil c (24 * a) (24 * a + j) (fun k => nI (rb_d B (N a + N b) (k - 24 * a)))) l g s p t o := by
  intro n
  induction n with
  | zero => intro j _ _ h; omega
  | succ n ih =>
    intro j y hj h hy he
    refine pk_le 24 j (fun h1 => ?_) (fun h1 => ?_)
    · obtain rfl : j = 24 := by omega
      rw [rb_hi0 (by omega) (R a ha).1 (Nat.le_refl _), rb_hi0 (by omega) (R b hb).1 (Nat.le_refl _)] at he
      have e : (N a + N b) / B ^ 24 = y := by omega
      rw [e] at H
      exact H
    · obtain ⟨t1, t2⟩ := rb_ts (by omega) he
      have hx := rb_d_lt (B := B) (by omega) (N a) j
      have hz := rb_d_lt (B := B) (by omega) (N b) j
      have ex : rb_fil c (24 * a) (24 * a + j) (fun k => nI (rb_d B (N a + N b) (k - 24 * a))) ((24 : Int32) * nI a + nI j).toNatClampNeg = nI (rb_d B (N a) j) := by
        rw [rx_cl ha h1, rb_filO (by omega), (R a ha).2 j h1]
      have ey : rb_fil c (24 * a) (24 * a + j) (fun k => nI (rb_d B (N a + N b) (k - 24 * a))) ((24 : Int32) * nI b + nI j).toNatClampNeg = nI (rb_d B (N b) j) := by
        rw [rx_cl hb h1, rb_filO (by omega), (R b hb).2 j h1]
      refine ⟨rx_in ha h1, rx_in hb h1, nm_r (e' := nI (1 * rb_d B (N a) j + rb_d B (N b) j + y)) (by rw [ex, ey, nI_add, nI_add, Nat.one_mul]) ?_⟩
      generalize hw : 1 * rb_d B (N a) j + rb_d B (N b) j + y = w at *
      refine pk_lt w B (fun h2 => ?_) (fun h2 => ?_)
      · rw [Nat.mod_eq_of_lt h2] at t1
        rw [Nat.div_eq_of_lt h2] at t2
        refine pk_lt w B (fun _ => ⟨rx_in ha h1, nm_r (e' := rb_fil c (24 * a) (24 * a + (j + 1)) (fun k => nI (rb_d B (N a + N b) (k - 24 * a)))) ?_ (nm_r (nI_1 j) (ih (j + 1) 0 (by omega) (by omega) (by omega) t2))⟩) (fun z => absurd z (by omega))
        rw [rx_cl ha h1]
        exact rb_filU (by rw [show 24 * a + j - 24 * a = j by omega, t1])
      · have e1 : w % B = w - B := by rw [Nat.mod_eq_sub_mod h2, Nat.mod_eq_of_lt (by omega)]
        have e2 : w / B = 1 := by rw [Nat.div_eq_sub_div (by omega) h2, Nat.div_eq_of_lt (by omega)]
        rw [e1] at t1
        rw [e2] at t2
        refine pk_lt w B (fun z => absurd z (by omega)) (fun _ => ⟨rx_in ha h1, nm_r (e' := rb_fil c (24 * a) (24 * a + (j + 1)) (fun k => nI (rb_d B (N a + N b) (k - 24 * a)))) ?_ (nm_r (nI_1 j) (ih (j + 1) 1 (by omega) (by omega) (by omega) t2))⟩)
        rw [rx_cl ha h1, pk_sub h2]
        exact rb_filU (by rw [show 24 * a + j - 24 * a = j by omega, t1])
theorem rx_addTo {post : Int32 → SX → Prop} {a b : Nat} (hB : 2 ≤ B) (hB2 : B ≤ 36) (ha : a < 8) (hb : b < 8) (hab : a ≠ b) (R : rb_RC B c N)
    (H : ∀ c', rb_RC B c' (rb_up N a ((N a + N b) % B ^ 24)) → post (nI ((N a + N b) / B ^ 24)) (nI B, c', l, g, s, p, t, o)) :
    wpX_addTo post (nI B, c, l, g, s, p, t, o) (nI a) (nI b) := by
  refine Exists.intro 25 ?_
  have h := rx_addTo_l (l := l) (g := g) (s := s) (p := p) (t := t) (o := o) hB hB2 ha hb hab R (H _ (rb_RCf R (Nat.mod_lt _ (rb_pp (by omega) 24)) (fun i hi => by
    rw [rb_d_mod _ hi, show 24 * a + i - 24 * a = i by omega]))) 25 0 0 (by omega) (by omega) (by omega) (by rw [rb_q0, rb_q0, rb_q0]; omega)
  rw [Nat.add_zero, rb_fil0] at h
  exact h
/-- small division, from the first digit on -/
theorem rx_divS_l {post : Int32 → SX → Prop} {a m : Nat} (hB : 2 ≤ B) (hB2 : B ≤ 36) (hm : 0 < m) (hm2 : m ≤ 1000000) (ha : a < 8) (R : rb_RC B c N)
    (H : post (nI (N a % m)) (nI B, rb_fil c (24 * a) (24 * a + 24) (fun k => nI (rb_d B (N a / m) (k - 24 * a))), l, g, s, p, t, o)) :
    ∀ n k, k ≤ 24 → k < n → wX_divideSmall_17 post (nI a) (nI m) (nI B) n (nI (N a / B ^ k % m)) (nI k + (-1)) (rb_fil c (24 * a + k) (24 * a + 24) (fun k => nI (rb_d B (N a / m) (k - 24 * a)))) l g s p t o := by
  intro n
  induction n with
  | zero => intro k _ h; omega
  | succ n ih =>
    intro k hk h
    cases k with
    | zero =>
      rw [rb_q0]
      exact br_t rb_m1neg H
    | succ j =>
      have hj : j < 24 := by omega
      rw [pk_m1]
      obtain ⟨d1, d2, d3⟩ := rb_dv (B := B) (v := N a) (m := m) (i := j) (by omega) hm rfl
      have hr : N a / B ^ (j + 1) % m < m := Nat.mod_lt _ hm
      have hd := rb_d31 hB hB2 (N a) j
      have hlt : m * B ≤ 1000000 * 36 := Nat.mul_le_mul hm2 hB2
      have hne : ¬ nI m = 0 := nI_ne0 hm (by omega)
      have ex : rb_fil c (24 * a + (j + 1)) (24 * a + 24) (fun k => nI (rb_d B (N a / m) (k - 24 * a))) ((24 : Int32) * nI a + nI j).toNatClampNeg = nI (rb_d B (N a) j) := by
        rw [rx_cl ha hj, rb_filO (by omega), (R a ha).2 j hj]
      refine br_f (nI_pos (by omega)) ⟨rx_in ha hj, nm_r (e' := nI (N a / B ^ (j + 1) % m * B + rb_d B (N a) j)) (by rw [ex, pk_mul, nI_add]) ⟨hne, rx_in ha hj,
        nm_r (e' := rb_fil c (24 * a + j) (24 * a + 24) (fun k => nI (rb_d B (N a / m) (k - 24 * a)))) ?_ ⟨hne, nm_r (e' := nI (N a / B ^ j % m)) ?_ (nm_e (ih j (by omega) (by omega)))⟩⟩⟩
      · rw [rx_cl ha hj, pk_div (by omega) hm (by omega), d1]
        exact rb_filD (lo := 24 * a + j) (by omega) (by rw [show 24 * a + j - 24 * a = j by omega])
      · rw [pk_rem (by omega) hm (by omega), d2]
theorem rx_divS {post : Int32 → SX → Prop} {a m : Nat} (hB : 2 ≤ B) (hB2 : B ≤ 36) (hm : 0 < m) (hm2 : m ≤ 1000000) (ha : a < 8) (R : rb_RC B c N)
    (H : ∀ c', rb_RC B c' (rb_up N a (N a / m)) → post (nI (N a % m)) (nI B, c', l, g, s, p, t, o)) :
    wpX_divideSmall post (nI B, c, l, g, s, p, t, o) (nI a) (nI m) := by
  refine br_f (nI_nle hm (by omega)) (Exists.intro 25 ?_)
  have h := rx_divS_l (l := l) (g := g) (s := s) (p := p) (t := t) (o := o) hB hB2 hm hm2 ha R (H _ (rb_RCf R (Nat.lt_of_le_of_lt (Nat.div_le_self _ _) (R a ha).1) (fun i hi => by
    rw [show 24 * a + i - 24 * a = i by omega]))) 25 24 (by omega) (by omega)
  rw [rb_hi0 (by omega) (R a ha).1 (Nat.le_refl _), Nat.zero_mod, rb_fil0] at h
  exact h
theorem rx_halve {post : SX → Prop} {a : Nat} (hB : 2 ≤ B) (hB2 : B ≤ 36) (ha : a < 8) (R : rb_RC B c N)
    (H : ∀ c', rb_RC B c' (rb_up N a (N a / 2)) → post (nI B, c', l, g, s, p, t, o)) :
    wpX_halve post (nI B, c, l, g, s, p, t, o) (nI a) := by
  unfold wpX_halve
  exact rx_divS (m := 2) hB hB2 (by omega) (by omega) ha R H
end
end
section
/-! the reference's small methods -/
section
variable {B : Nat} {b : Nat → Int32} {M : Nat → Nat}
theorem ry_get {a j : Nat} (R : rb_RY B b M) (ha : a < 10) (hj : j < 50) : b ((50 : Int32) * nI a + nI j).toNatClampNeg = nI (rb_d B (M a) j) := by
  rw [ry_cl ha hj]; exact (R a ha).2 j hj
theorem ry_copy_l {post : SY → Prop} {to fr : Nat} (hf : fr < 10) (ht : to < 10) (H : post (nI B, rb_fil b (50 * to) (50 * to + 50) (fun k => b (k - 50 * to + 50 * fr)))) :
    ∀ n j, j ≤ 50 → 50 - j < n → wY_copyRow_2 post (nI fr) (nI to) (nI B) n (nI j) (rb_fil b (50 * to) (50 * to + j) (fun k => b (k - 50 * to + 50 * fr))) := by
  intro n
  induction n with
  | zero => intro j _ h; omega
  | succ n ih =>
    intro j hj h
    refine pk_le 50 j (fun h1 => ?_) (fun h1 => ?_)
    · obtain rfl : j = 50 := by omega
      exact H
    · refine ⟨ry_in hf h1, ry_in ht h1, nm_r (e' := rb_fil b (50 * to) (50 * to + (j + 1)) (fun k => b (k - 50 * to + 50 * fr))) ?_ (nm_r (nI_1 j) (ih (j + 1) (by omega) (by omega)))⟩
      rw [ry_cl ht h1, ry_cl hf h1]
      exact rb_filU ((rb_filO (by omega)).trans (congrArg b (by omega)))
theorem ry_copy {post : SY → Prop} {to fr : Nat} (hf : fr < 10) (ht : to < 10) (R : rb_RY B b M)
    (H : ∀ b', rb_RY B b' (rb_up M to (M fr)) → post (nI B, b')) : wpY_copyRow post (nI B, b) (nI fr) (nI to) := by
  refine Exists.intro 51 ?_
  have h := ry_copy_l hf ht (H _ (rb_RYf R (R fr hf).1 (fun i hi => ((congrArg b (by omega)).trans ((R fr hf).2 i hi))))) 51 0 (by omega) (by omega)
  rw [Nat.add_zero, rb_fil0] at h
  exact h
theorem ry_set_l {post : SY → Prop} {to : Nat} {x : Int32} (ht : to < 10) (H : post (nI B, upd (rb_fil b (50 * to) (50 * to + 50) (fun _ => 0)) (50 * to) x)) :
    ∀ n j, j ≤ 50 → 50 - j < n → wY_setRow_2 post (nI to) x (nI B) n (nI j) (rb_fil b (50 * to) (50 * to + j) (fun _ => 0)) := by
  intro n
  induction n with
  | zero => intro j _ h; omega
  | succ n ih =>
    intro j hj h
    refine pk_le 50 j (fun h1 => ?_) (fun h1 => ?_)
    · obtain rfl : j = 50 := by omega
      exact ⟨ry_in0 ht, nm_r (by rw [ry_cl0 ht]) H⟩
    · refine ⟨ry_in ht h1, nm_r (e' := rb_fil b (50 * to) (50 * to + (j + 1)) (fun _ => 0)) ?_ (nm_r (nI_1 j) (ih (j + 1) (by omega) (by omega)))⟩
      rw [ry_cl ht h1]
      exact rb_filU rfl
theorem ry_set {post : SY → Prop} {to v : Nat} (hB : 2 ≤ B) (hv : v < B) (ht : to < 10) (R : rb_RY B b M)
    (H : ∀ b', rb_RY B b' (rb_up M to v) → post (nI B, b')) : wpY_setRow post (nI B, b) (nI to) (nI v) := by
  refine Exists.intro 51 ?_
  have hv1 : v < B ^ 1 := by rw [Nat.pow_one]; exact hv
  have h := ry_set_l (B := B) (b := b) (x := nI v) ht (H _ (rb_RYd R (Nat.lt_of_lt_of_le hv1 (Nat.pow_le_pow_right (by omega) (by omega))) (fun i hi => ?_) (fun k hk => ?_))) 51 0 (by omega) (by omega)
  · rw [Nat.add_zero, rb_fil0] at h
    exact h
  · cases i with
    | zero =>
      rw [show 50 * to + 0 = 50 * to from rfl, pk_us]
      unfold rb_d
      rw [rb_q0, Nat.mod_eq_of_lt hv]
    | succ i => rw [pk_un (by omega), rb_filI (by omega) (by omega), rb_d_hi (n := 1) (by omega) hv1 (by omega)]; rfl
  · rw [pk_un (by omega), rb_filO hk]
theorem ry_order_l {post : Int32 → Prop} {r q : Nat} (hB : 2 ≤ B) (hB2 : B ≤ 36) (hr : r < 10) (hq : q < 10) (R : rb_RY B b M)
    (H1 : M r < M q → post (-1)) (H2 : M r = M q → post 0) (H3 : M q < M r → post 1) :
    ∀ n k, k ≤ 50 → k < n → M r / B ^ k = M q / B ^ k → wY_order_3 post (nI r) (nI q) (nI B) b n (nI k + (-1)) := by
  intro n
  induction n with
  | zero => intro k _ h; omega
  | succ n ih =>
    intro k hk h he
    cases k with
    | zero => exact br_t rb_m1neg (H2 (by rw [rb_q0, rb_q0] at he; exact he))
    | succ j =>
      have hj : j < 50 := by omega
      rw [pk_m1]
      have hx := rb_d31 hB hB2 (M r) j
      have hy := rb_d31 hB hB2 (M q) j
      refine br_f (nI_pos (by omega)) ⟨ry_in hr hj, nm_r (ry_get R hr hj) ⟨ry_in hq hj, nm_r (ry_get R hq hj) ?_⟩⟩
      refine pk_eq (rb_d B (M r) j) (rb_d B (M q) j) (fun z => nm_e (ih j (by omega) (by omega) (rb_c_eq he z))) (fun z => ?_)
      exact pk_le (rb_d B (M q) j) (rb_d B (M r) j) (fun y => H3 (rb_c_lt he.symm (by omega))) (fun y => H1 (rb_c_lt he y))
theorem ry_order {post : Int32 → Prop} {r q : Nat} (hB : 2 ≤ B) (hB2 : B ≤ 36) (hr : r < 10) (hq : q < 10) (R : rb_RY B b M)
    (H1 : M r < M q → post (-1)) (H2 : M r = M q → post 0) (H3 : M q < M r → post 1) : wpY_order post (nI B, b) (nI r) (nI q) := by
  refine Exists.intro 51 ?_
  have h := ry_order_l hB hB2 hr hq R H1 H2 H3 51 50 (by omega) (by omega) (by rw [rb_hi0 (by omega) (R r hr).1 (by omega), rb_hi0 (by omega) (R q hq).1 (by omega)])
  exact h
theorem ry_long_l {post : Int32 → Prop} {r : Nat} (hB : 2 ≤ B) (hB2 : B ≤ 36) (hr : r < 10) (R : rb_RY B b M) (H0 : M r < B ^ 24 → post 0) (H1 : ¬ M r < B ^ 24 → post 1) :
    ∀ n j, 24 ≤ j → j ≤ 50 → 50 - j < n → (∀ i, 24 ≤ i → i < j → rb_d B (M r) i = 0) → wY_tooLong_3 post (nI r) (nI B) b n (nI j) := by
  intro n
  induction n with
  | zero => intro j _ _ h; omega
  | succ n ih =>
    intro j h24 hj h hz
    refine pk_le 50 j (fun h1 => ?_) (fun h1 => ?_)
    · obtain rfl : j = 50 := by omega
      exact H0 (rb_zd (by omega) 50 (R r hr).1 hz)
    · refine ⟨ry_in hr h1, ?_⟩
      rw [ry_get R hr h1]
      have hx := rb_d31 hB hB2 (M r) j
      refine pk_eq (rb_d B (M r) j) 0 (fun z => nm_r (nI_1 j) (ih (j + 1) (by omega) (by omega) (by omega) (fun i h2 h3 => ?_))) (fun z => H1 (fun y => z (rb_d_hi (by omega) y h24)))
      by_cases e : i = j
      · rw [e]; exact z
      · exact hz i h2 (by omega)
theorem ry_long {post : Int32 → Prop} {r : Nat} (hB : 2 ≤ B) (hB2 : B ≤ 36) (hr : r < 10) (R : rb_RY B b M) (H0 : M r < B ^ 24 → post 0) (H1 : ¬ M r < B ^ 24 → post 1) :
    wpY_tooLong post (nI B, b) (nI r) :=
  Exists.intro 51 (ry_long_l hB hB2 hr R H0 H1 51 24 (by omega) (by omega) (by omega) (fun i h1 h2 => absurd h2 (by omega)))
theorem ry_zero_l {post : Int32 → Prop} {r : Nat} (hB : 2 ≤ B) (hB2 : B ≤ 36) (hr : r < 10) (R : rb_RY B b M) (H0 : ¬ M r = 0 → post 0) (H1 : M r = 0 → post 1) :
    ∀ n j, j ≤ 50 → 50 - j < n → (∀ i, i < j → rb_d B (M r) i = 0) → wY_zero_2 post (nI r) (nI B) b n (nI j) := by
  intro n
  induction n with
  | zero => intro j _ h; omega
  | succ n ih =>
    intro j hj h hz
    refine pk_le 50 j (fun h1 => ?_) (fun h1 => ?_)
    · obtain rfl : j = 50 := by omega
      exact H1 (rb_zero (by omega) (R r hr).1 hz)
    · refine ⟨ry_in hr h1, ?_⟩
      rw [ry_get R hr h1]
      have hx := rb_d31 hB hB2 (M r) j
      refine pk_eq (rb_d B (M r) j) 0 (fun z => nm_r (nI_1 j) (ih (j + 1) (by omega) (by omega) (fun i h3 => ?_))) (fun z => H0 (fun y => z (by rw [y, rb_d0])))
      by_cases e : i = j
      · rw [e]; exact z
      · exact hz i (by omega)
theorem ry_zero {post : Int32 → Prop} {r : Nat} (hB : 2 ≤ B) (hB2 : B ≤ 36) (hr : r < 10) (R : rb_RY B b M) (H0 : ¬ M r = 0 → post 0) (H1 : M r = 0 → post 1) :
    wpY_zero post (nI B, b) (nI r) :=
  Exists.intro 51 (ry_zero_l hB hB2 hr R H0 H1 51 0 (by omega) (by omega) (fun i h2 => absurd h2 (by omega)))
theorem ry_add_l {post : SY → Prop} {r q : Nat} (hB : 2 ≤ B) (hB2 : B ≤ 36) (hr : r < 10) (hq : q < 10) (hrq : r ≠ q) (R : rb_RY B b M)
    (H : post (nI B, rb_fil b (50 * r) (50 * r + 50) (fun k => nI (rb_d B (M r + M q) (k - 50 * r))))) :
    ∀ n j y, j ≤ 50 → 50 - j < n → y ≤ 1 → (M r + M q) / B ^ j = 1 * (M r / B ^ j) + M q / B ^ j + y →
      wY_addRow_5 post (nI r) (nI q) (nI B) n (nI y) (nI j) (rb_fil b (50 * r) (50 * r + j) (fun k => nI (rb_d B (M r + M q) (k - 50 * r)))) := by
  intro n
  induction n with
  | zero => intro j _ _ h; omega
  | succ n ih =>
    intro j y hj h hy he
    refine pk_le 50 j (fun h1 => ?_) (fun h1 => ?_)
    · obtain rfl : j = 50 := by omega
      exact H
    · obtain ⟨t1, t2⟩ := rb_ts (by omega) he
      have hx := rb_d_lt (B := B) (by omega) (M r) j
      have hz := rb_d_lt (B := B) (by omega) (M q) j
      have ex : rb_fil b (50 * r) (50 * r + j) (fun k => nI (rb_d B (M r + M q) (k - 50 * r))) ((50 : Int32) * nI r + nI j).toNatClampNeg = nI (rb_d B (M r) j) := by
        rw [ry_cl hr h1, rb_filO (by omega), (R r hr).2 j h1]
      have ey : rb_fil b (50 * r) (50 * r + j) (fun k => nI (rb_d B (M r + M q) (k - 50 * r))) ((50 : Int32) * nI q + nI j).toNatClampNeg = nI (rb_d B (M q) j) := by
        rw [ry_cl hq h1, rb_filO (by omega), (R q hq).2 j h1]
      refine ⟨ry_in hr h1, ry_in hq h1, nm_r (e' := nI (1 * rb_d B (M r) j + rb_d B (M q) j + y)) (by rw [ex, ey, nI_add, nI_add, Nat.one_mul]) ?_⟩
      generalize hw : 1 * rb_d B (M r) j + rb_d B (M q) j + y = w at *
      refine pk_lt w B (fun h2 => ?_) (fun h2 => ?_)
      · rw [Nat.mod_eq_of_lt h2] at t1
        rw [Nat.div_eq_of_lt h2] at t2
        refine ⟨ry_in hr h1, nm_r (e' := rb_fil b (50 * r) (50 * r + (j + 1)) (fun k => nI (rb_d B (M r + M q) (k - 50 * r)))) ?_ (nm_r (nI_1 j) (ih (j + 1) 0 (by omega) (by omega) (by omega) t2))⟩
        rw [ry_cl hr h1, Int32.zero_mul, Int32.sub_zero]
        exact rb_filU (by rw [show 50 * r + j - 50 * r = j by omega, t1])
      · have e1 : w % B = w - B := by rw [Nat.mod_eq_sub_mod h2, Nat.mod_eq_of_lt (by omega)]
        have e2 : w / B = 1 := by rw [Nat.div_eq_sub_div (by omega) h2, Nat.div_eq_of_lt (by omega)]
        rw [e1] at t1
        rw [e2] at t2
        refine ⟨ry_in hr h1, nm_r (e' := rb_fil b (50 * r) (50 * r + (j + 1)) (fun k => nI (rb_d B (M r + M q) (k - 50 * r)))) ?_ (nm_r (nI_1 j) (ih (j + 1) 1 (by omega) (by omega) (by omega) t2))⟩
        rw [ry_cl hr h1, Int32.one_mul, pk_sub h2]
        exact rb_filU (by rw [show 50 * r + j - 50 * r = j by omega, t1])
theorem ry_add {post : SY → Prop} {r q : Nat} (hB : 2 ≤ B) (hB2 : B ≤ 36) (hr : r < 10) (hq : q < 10) (hrq : r ≠ q) (R : rb_RY B b M) (hs : M r + M q < B ^ 50)
    (H : ∀ b', rb_RY B b' (rb_up M r (M r + M q)) → post (nI B, b')) : wpY_addRow post (nI B, b) (nI r) (nI q) := by
  refine Exists.intro 51 ?_
  have h := ry_add_l hB hB2 hr hq hrq R (H _ (rb_RYf R hs (fun i hi => by rw [show 50 * r + i - 50 * r = i by omega]))) 51 0 0 (by omega) (by omega) (by omega) (by rw [rb_q0, rb_q0, rb_q0]; omega)
  rw [Nat.add_zero, rb_fil0] at h
  exact h
/-- what is left of a digit when t times a digit and a borrow are taken off -/
theorem rb_tk {w q B k D y : Nat} (hw : w = k + D + y) (hq : w / B = q) : nI (w % B) - nI k - nI y = nI D - nI (q * B) := by
  have h := Nat.div_add_mod w B
  rw [hq] at h
  have e : nI (w % B) + nI (q * B) = nI k + nI D + nI y := by rw [nI_add, nI_add, nI_add]; exact congrArg nI (by rw [Nat.mul_comm q B]; omega)
  generalize nI (w % B) = a1 at *
  generalize nI (q * B) = a2 at *
  generalize nI k = a3 at *
  generalize nI D = a4 at *
  generalize nI y = a5 at *
  grind
theorem ry_take_l {post : SY → Prop} {r q D : Nat} (hB : 2 ≤ B) (hB2 : B ≤ 36) (hr : r < 10) (hq : q < 10) (hrq : r ≠ q) (R : rb_RY B b M)
    (H : post (nI B, rb_fil b (50 * r) (50 * r + 50) (fun k => nI (rb_d B D (k - 50 * r))))) :
    ∀ n j y, j ≤ 50 → 50 - j < n → y ≤ 1 → M r / B ^ j = 1 * (M q / B ^ j) + D / B ^ j + y →
      wY_takeRow_5 post (nI r) (nI q) (nI B) n (nI y) (nI j) (rb_fil b (50 * r) (50 * r + j) (fun k => nI (rb_d B D (k - 50 * r)))) := by
  intro n
  induction n with
  | zero => intro j _ _ h; omega
  | succ n ih =>
    intro j y hj h hy he
    refine pk_le 50 j (fun h1 => ?_) (fun h1 => ?_)
    · obtain rfl : j = 50 := by omega
      exact H
    · obtain ⟨t1, t2⟩ := rb_ts (by omega) he
      have hx := rb_d_lt (B := B) (by omega) (M q) j
      have hz := rb_d_lt (B := B) (by omega) D j
      have ex : rb_fil b (50 * r) (50 * r + j) (fun k => nI (rb_d B D (k - 50 * r))) ((50 : Int32) * nI r + nI j).toNatClampNeg = nI (rb_d B (M r) j) := by
        rw [ry_cl hr h1, rb_filO (by omega), (R r hr).2 j h1]
      have ey : rb_fil b (50 * r) (50 * r + j) (fun k => nI (rb_d B D (k - 50 * r))) ((50 : Int32) * nI q + nI j).toNatClampNeg = nI (rb_d B (M q) j) := by
        rw [ry_cl hq h1, rb_filO (by omega), (R q hq).2 j h1]
      generalize hw : 1 * rb_d B (M q) j + rb_d B D j + y = w at *
      have tk := rb_tk (w := w) (B := B) (k := rb_d B (M q) j) (D := rb_d B D j) (y := y) (by omega) rfl
      refine ⟨ry_in hr h1, ry_in hq h1, nm_r (e' := nI (rb_d B D j) - nI (w / B * B)) (by rw [ex, ey, t1, tk]) ?_⟩
      by_cases h2 : w < B
      · rw [Nat.div_eq_of_lt h2] at t2
        rw [Nat.div_eq_of_lt h2, Nat.zero_mul, nI_0, Int32.sub_zero]
        refine br_t (nI_pos' (by omega)) ⟨ry_in hr h1, nm_r (e' := rb_fil b (50 * r) (50 * r + (j + 1)) (fun k => nI (rb_d B D (k - 50 * r)))) ?_ (nm_r (nI_1 j) (ih (j + 1) 0 (by omega) (by omega) (by omega) t2))⟩
        rw [ry_cl hr h1, Int32.zero_mul, Int32.add_zero]
        exact rb_filU (by rw [show 50 * r + j - 50 * r = j by omega])
      · have e2 : w / B = 1 := by rw [Nat.div_eq_sub_div (by omega) (by omega), Nat.div_eq_of_lt (by omega)]
        rw [e2] at t2
        rw [e2, Nat.one_mul]
        have hn : nI (rb_d B D j) - nI B < 0 := pk_sneg (by omega) hz
        refine br_f (Int32.not_le.mpr hn) ⟨ry_in hr h1, nm_r (e' := rb_fil b (50 * r) (50 * r + (j + 1)) (fun k => nI (rb_d B D (k - 50 * r)))) ?_ (nm_r (nI_1 j) (ih (j + 1) 1 (by omega) (by omega) (by omega) t2))⟩
        rw [ry_cl hr h1, Int32.one_mul, Int32.sub_add_cancel]
        exact rb_filU (by rw [show 50 * r + j - 50 * r = j by omega])
theorem ry_take {post : SY → Prop} {r q : Nat} (hB : 2 ≤ B) (hB2 : B ≤ 36) (hr : r < 10) (hq : q < 10) (hrq : r ≠ q) (R : rb_RY B b M) (hs : M q ≤ M r)
    (H : ∀ b', rb_RY B b' (rb_up M r (M r - M q)) → post (nI B, b')) : wpY_takeRow post (nI B, b) (nI r) (nI q) := by
  refine Exists.intro 51 ?_
  have h := ry_take_l (D := M r - M q) hB hB2 hr hq hrq R (H _ (rb_RYf R (Nat.lt_of_le_of_lt (Nat.sub_le _ _) (R r hr).1) (fun i hi => by rw [show 50 * r + i - 50 * r = i by omega]))) 51 0 0 (by omega) (by omega) (by omega) (by rw [rb_q0, rb_q0, rb_q0]; omega)
  rw [Nat.add_zero, rb_fil0] at h
  exact h
theorem ry_feed_l {post : SY → Prop} {r : Nat} {x : Int32} (hr : r < 10) (H : post (nI B, upd (rb_fil b (50 * r + 1) (50 * r + 50) (fun k => b (k - 1))) (50 * r) x)) :
    ∀ n j, j < 50 → j < n → wY_feedRow_3 post (nI r) x (nI B) n (nI j) (rb_fil b (50 * r + j + 1) (50 * r + 50) (fun k => b (k - 1))) := by
  intro n
  induction n with
  | zero => intro j _ h; omega
  | succ n ih =>
    intro j hj h
    cases j with
    | zero => exact br_t (show nI 0 ≤ 0 by decide) ⟨ry_in0 hr, nm_r (by rw [ry_cl0 hr]) H⟩
    | succ j =>
      refine br_f (nI_nle (by omega) (by omega)) ⟨ry_in1 hr (by omega), ry_in hr hj, nm_r (e' := rb_fil b (50 * r + j + 1) (50 * r + 50) (fun k => b (k - 1))) ?_ (nm_r (pk_m1 j) (ih j (by omega) (by omega)))⟩
      rw [ry_cl hr hj, ry_cl1 hr (by omega)]
      exact rb_filD (lo := 50 * r + j + 1) (by omega) ((rb_filO (by omega)).trans (congrArg b (by omega)))
theorem ry_feed {post : SY → Prop} {r d : Nat} (hB : 2 ≤ B) (hr : r < 10) (hd : d < B) (R : rb_RY B b M) (hs : M r * B + d < B ^ 50)
    (H : ∀ b', rb_RY B b' (rb_up M r (M r * B + d)) → post (nI B, b')) : wpY_feedRow post (nI B, b) (nI r) (nI d) := by
  refine Exists.intro 50 ?_
  have h := ry_feed_l (B := B) (b := b) (x := nI d) hr (H _ (rb_RYd R hs (fun i hi => ?_) (fun k hk => ?_))) 50 49 (by omega) (by omega)
  · rw [show 50 * r + 49 + 1 = 50 * r + 50 from rfl, rb_fil0] at h
    exact h
  · have e : M r * B + d = d + B * M r := by rw [Nat.mul_comm, Nat.add_comm]
    rw [e]
    cases i with
    | zero => rw [show 50 * r + 0 = 50 * r from rfl, pk_us, rb_d_Z hd]
    | succ i =>
      rw [pk_un (by omega), rb_filI (by omega) (by omega), rb_d_S (by omega) hd]
      exact (congrArg b (by omega)).trans ((R r hr).2 i (by omega))
  · rw [pk_un (by omega), rb_filO (by omega)]
/-- row 5 divided by a small number -/
theorem ry_cut_l {post : Int32 → SY → Prop} {m : Nat} (hB : 2 ≤ B) (hB2 : B ≤ 36) (hm : 0 < m) (hm2 : m ≤ 1000000) (R : rb_RY B b M)
    (H : post (nI (M 5 % m)) (nI B, rb_fil b 250 274 (fun k => nI (rb_d B (M 5 / m) (k - 250))))) :
    ∀ n k, k ≤ 24 → k < n → wY_cut_17 post (nI m) (nI B) n (nI (M 5 / B ^ k % m)) (nI k + (-1)) (rb_fil b (250 + k) 274 (fun k => nI (rb_d B (M 5 / m) (k - 250)))) := by
  intro n
  induction n with
  | zero => intro k _ h; omega
  | succ n ih =>
    intro k hk h
    cases k with
    | zero =>
      rw [rb_q0]
      exact br_t rb_m1neg H
    | succ j =>
      have hj : j < 24 := by omega
      rw [pk_m1]
      obtain ⟨d1, d2, d3⟩ := rb_dv (B := B) (v := M 5) (m := m) (i := j) (by omega) hm rfl
      have hr : M 5 / B ^ (j + 1) % m < m := Nat.mod_lt _ hm
      have hd := rb_d31 hB hB2 (M 5) j
      have hlt : m * B ≤ 1000000 * 36 := Nat.mul_le_mul hm2 hB2
      have hne : ¬ nI m = 0 := nI_ne0 hm (by omega)
      have hix : (250 : Int32) + nI j = nI (250 + j) := nI_add 250 j
      have hin : vp_in ((250 : Int32) + nI j) 500 := by rw [hix]; exact vp_in_nI (by omega) (by omega)
      have hcl : ((250 : Int32) + nI j).toNatClampNeg = 250 + j := by rw [hix]; exact nI_clamp (by omega)
      have ex : rb_fil b (250 + (j + 1)) 274 (fun k => nI (rb_d B (M 5 / m) (k - 250))) ((250 : Int32) + nI j).toNatClampNeg = nI (rb_d B (M 5) j) := by
        rw [hcl, rb_filO (by omega)]
        exact (R 5 (by omega)).2 j (by omega)
      refine br_f (nI_pos (by omega)) ⟨hin, nm_r (e' := nI (M 5 / B ^ (j + 1) % m * B + rb_d B (M 5) j)) (by rw [ex, pk_mul, nI_add]) ⟨hne, hin,
        nm_r (e' := rb_fil b (250 + j) 274 (fun k => nI (rb_d B (M 5 / m) (k - 250)))) ?_ ⟨hne, nm_r (e' := nI (M 5 / B ^ j % m)) ?_ (nm_e (ih j (by omega) (by omega)))⟩⟩⟩
      · rw [hcl, pk_div (by omega) hm (by omega), d1]
        exact rb_filD (lo := 250 + j) (by omega) (by rw [show 250 + j - 250 = j by omega])
      · rw [pk_rem (by omega) hm (by omega), d2]
theorem ry_cut {post : Int32 → SY → Prop} {m : Nat} (hB : 2 ≤ B) (hB2 : B ≤ 36) (hm : 0 < m) (hm2 : m ≤ 1000000) (R : rb_RY B b M) (h5 : M 5 < B ^ 24)
    (H : ∀ b', rb_RY B b' (rb_up M 5 (M 5 / m)) → post (nI (M 5 % m)) (nI B, b')) : wpY_cut post (nI B, b) (nI m) := by
  refine br_t (nI_le (a := 1) (by omega) (by omega)) (Exists.intro 25 ?_)
  have hv : M 5 / m < B ^ 24 := Nat.lt_of_le_of_lt (Nat.div_le_self _ _) h5
  have h := ry_cut_l hB hB2 hm hm2 R (H _ (rb_RYd R (Nat.lt_of_le_of_lt (Nat.div_le_self _ _) (R 5 (by omega)).1) (fun i hi => ?_) (fun k hk => rb_filO (by omega)))) 25 24 (by omega) (by omega)
  · rw [rb_hi0 (by omega) h5 (Nat.le_refl _), Nat.zero_mod, rb_fil0] at h
    exact h
  · by_cases e : i < 24
    · rw [rb_filI (by omega) (by omega), show 50 * 5 + i - 250 = i by omega]
    · rw [rb_filO (by omega), rb_d_hi (by omega) hv (by omega), (R 5 (by omega)).2 i hi, rb_d_hi (by omega) h5 (by omega)]
end
end
section
/-! the reference's product and quotient -/
section
variable {B : Nat} {b : Nat → Int32} {M : Nat → Nat}
theorem ry_ix2 (r i j : Nat) : (50 : Int32) * nI r + nI i + nI j = nI (50 * r + (i + j)) := by
  rw [ry_ix, nI_add, Nat.add_assoc]
theorem ry_in2 {r i j : Nat} (hr : r < 10) (hj : i + j < 50) : vp_in ((50 : Int32) * nI r + nI i + nI j) 500 := by rw [ry_ix2]; exact vp_in_nI (by omega) (by omega)
theorem ry_cl2 {r i j : Nat} (hr : r < 10) (hj : i + j < 50) : ((50 : Int32) * nI r + nI i + nI j).toNatClampNeg = 50 * r + (i + j) := by rw [ry_ix2]; exact nI_clamp (by omega)
/-- one digit of the first factor times the second, added at its place -/
theorem ry_mul_i {post : SY → Prop} {J : Int32 → (Nat → Int32) → Prop} {t r q i T T' x : Nat} (hB : 2 ≤ B) (hB2 : B ≤ 36) (ht : t < 10) (hr : r < 10) (hq : q < 10) (htr : t ≠ r) (htq : t ≠ q)
    (R : rb_RY B b M) (hi : i < 24) (hx : rb_d B (M r) i = x) (hy : M q < B ^ 24) (hT : T < B ^ (i + 26)) (hT' : T' < B ^ (i + 26))
    (H : ∀ e, (∀ k, k < 50 → e (50 * t + k) = nI (rb_d B T' k)) → (∀ k, (k < 50 * t ∨ 50 * t + 50 ≤ k) → e k = b k) → J (nI (i + 1)) e) :
    ∀ n j y e, j ≤ 26 → 26 - j < n → y < B → T' / B ^ (i + j) = T / B ^ (i + j) + x * (M q / B ^ j) + y →
      (∀ k, k < 50 → e (50 * t + k) = nI (rb_d B (if k < i + j then T' else T) k)) → (∀ k, (k < 50 * t ∨ 50 * t + 50 ≤ k) → e k = b k) →
      wY_multiplyRow_40 post J (nI t) (nI r) (nI q) (nI B) (nI i) (nI B) n (nI y) (nI j) e := by
  intro n
  induction n with
  | zero => intro j _ _ _ h; omega
  | succ n ih =>
    intro j y e hj h hyB he h1 h2
    refine pk_le 26 j (fun h3 => ?_) (fun h3 => ?_)
    · obtain rfl : j = 26 := by omega
      refine nm_r (nI_1 i) (H e (fun k hk => ?_) h2)
      rw [h1 k hk]
      by_cases c : k < i + 26
      · rw [if_pos c]
      · rw [if_neg c, rb_d_hi (by omega) hT (by omega), rb_d_hi (by omega) hT' (by omega)]
    · have hxB : x < B := by rw [← hx]; exact rb_d_lt (by omega) _ _
      have hxr : x ≤ 35 := by omega
      have hyq := rb_d_lt (B := B) (by omega) (M q) j
      have hTd := rb_d_lt (B := B) (by omega) T (i + j)
      obtain ⟨t1, t2⟩ := rb_ms (by omega) he
      have hmul : x * rb_d B (M q) j ≤ x * (B - 1) := Nat.mul_le_mul_left x (by omega)
      have hmul2 : x * (B - 1) ≤ (B - 1) * (B - 1) := Nat.mul_le_mul_right _ (by omega)
      have hsq : (B - 1) * (B - 1) + 2 * B = B * B + 1 := by
        obtain ⟨m, rfl⟩ : ∃ m, B = m + 1 := ⟨B - 1, by omega⟩
        rw [Nat.add_sub_cancel]; grind
      have hw : rb_d B T (i + j) + x * rb_d B (M q) j + y < B * B := by omega
      have hBB : B * B ≤ 36 * 36 := Nat.mul_le_mul hB2 hB2
      have hxx : e ((50 : Int32) * nI r + nI i).toNatClampNeg = nI x := by
        rw [ry_cl hr (by omega), h2 _ (by omega), (R r hr).2 i (by omega), hx]
      have hee : e ((50 : Int32) * nI t + nI i + nI j).toNatClampNeg = nI (rb_d B T (i + j)) := by
        rw [ry_cl2 ht (by omega), h1 _ (by omega), if_neg (by omega)]
      have hne : ¬ nI B = 0 := nI_ne0 (by omega) (by omega)
      have body : wY_multiplyRow_70 post J (wY_multiplyRow_40 post J (nI t) (nI r) (nI q) (nI B) (nI i) (nI B) n) (nI t) (nI r) (nI q) (nI B) (nI i) (nI y) (nI j) (nI (rb_d B (M q) j)) (nI B) e := by
        refine ⟨ry_in2 ht (by omega), ry_in hr (by omega), nm_r (e' := nI (rb_d B T (i + j) + x * rb_d B (M q) j + y)) (by rw [hee, hxx, pk_mul, nI_add, nI_add]) ⟨hne, ry_in2 ht (by omega), nm_r (e' := upd e (50 * t + (i + j)) (nI (rb_d B T' (i + j)))) ?_ ⟨hne, nm_r (e' := nI ((rb_d B T (i + j) + x * rb_d B (M q) j + y) / B)) ?_ (nm_r (nI_1 j) (ih (j + 1) _ _ (by omega) (by omega) (Nat.div_lt_of_lt_mul hw) t2 (fun k hk => ?_) (fun k hk => ?_)))⟩⟩⟩
        · rw [ry_cl2 ht (by omega), pk_rem (by omega) (by omega) (by omega), t1]
        · rw [pk_div (by omega) (by omega) (by omega)]
        · by_cases c : k = i + j
          · rw [c, pk_us, if_pos (by omega)]
          · rw [pk_un (by omega), h1 k hk]
            by_cases d : k < i + j
            · rw [if_pos d, if_pos (by omega)]
            · rw [if_neg d, if_neg (by omega)]
        · rw [pk_un (by omega), h2 k hk]
      refine pk_le 24 j (fun h4 => ?_) (fun h4 => ?_)
      · rw [rb_d_hi (by omega) hy h4] at body
        exact body
      · refine ⟨ry_in hq (by omega), ?_⟩
        have hv : e ((50 : Int32) * nI q + nI j).toNatClampNeg = nI (rb_d B (M q) j) := by
          rw [ry_cl hq (by omega), h2 _ (by omega), (R q hq).2 j (by omega)]
        rw [hv]
        exact body
theorem ry_mul_o {post : SY → Prop} {t r q : Nat} (hB : 2 ≤ B) (hB2 : B ≤ 36) (ht : t < 10) (hr : r < 10) (hq : q < 10) (htr : t ≠ r) (htq : t ≠ q)
    (R : rb_RY B b M) (hx : M r < B ^ 24) (hy : M q < B ^ 24)
    (H : ∀ e, (∀ k, k < 50 → e (50 * t + k) = nI (rb_d B (M r * M q) k)) → (∀ k, (k < 50 * t ∨ 50 * t + 50 ≤ k) → e k = b k) → post (nI B, e)) :
    ∀ n i e, i ≤ 24 → 24 - i < n → (∀ k, k < 50 → e (50 * t + k) = nI (rb_d B (M r % B ^ i * M q) k)) → (∀ k, (k < 50 * t ∨ 50 * t + 50 ≤ k) → e k = b k) →
      wY_multiplyRow_27 post (nI t) (nI r) (nI q) (nI B) (nI B) n (nI i) e := by
  intro n
  induction n with
  | zero => intro i _ _ h; omega
  | succ n ih =>
    intro i e hi h h1 h2
    have hp : ∀ m, 0 < B ^ m := rb_pp (by omega)
    refine pk_le 24 i (fun h3 => ?_) (fun h3 => ?_)
    · obtain rfl : i = 24 := by omega
      rw [Nat.mod_eq_of_lt hx] at h1
      exact H e h1 h2
    · have bd : ∀ j, M r % B ^ j * M q < B ^ (j + 24) := by
        intro j
        rw [Nat.pow_add]
        exact Nat.mul_lt_mul_of_lt_of_le (Nat.mod_lt _ (hp j)) (Nat.le_of_lt hy) (hp 24)
      have hstep : M r % B ^ (i + 1) * M q = M r % B ^ i * M q + rb_d B (M r) i * M q * B ^ i := by
        rw [Nat.mod_pow_succ]
        show (M r % B ^ i + B ^ i * rb_d B (M r) i) * M q = _
        grind
      refine Exists.intro 27 (ry_mul_i (T := M r % B ^ i * M q) (T' := M r % B ^ (i + 1) * M q) hB hB2 ht hr hq htr htq R h3 rfl hy
        (Nat.lt_of_lt_of_le (bd i) (Nat.pow_le_pow_right (by omega) (by omega))) (Nat.lt_of_lt_of_le (bd (i + 1)) (Nat.pow_le_pow_right (by omega) (by omega)))
        (fun e' h4 h5 => ih (i + 1) e' (by omega) (by omega) h4 h5) 27 0 0 e (by omega) (by omega) (by omega) ?_ (fun k hk => ?_) h2)
      · rw [show i + 0 = i from rfl, Nat.pow_zero, Nat.div_one, hstep, Nat.add_mul_div_right _ _ (hp i), Nat.add_zero]
      · rw [h1 k hk, show i + 0 = i from rfl]
        by_cases c : k < i
        · rw [if_pos c, hstep, Nat.mul_comm (rb_d B (M r) i * M q), rb_low c]
        · rw [if_neg c]
theorem ry_mul {post : SY → Prop} {t r q : Nat} (hB : 2 ≤ B) (hB2 : B ≤ 36) (ht : t < 10) (hr : r < 10) (hq : q < 10) (htr : t ≠ r) (htq : t ≠ q)
    (R : rb_RY B b M) (hx : M r < B ^ 24) (hy : M q < B ^ 24) (H : ∀ b', rb_RY B b' (rb_up M t (M r * M q)) → post (nI B, b')) :
    wpY_multiplyRow post (nI B, b) (nI t) (nI r) (nI q) := by
  have hp : ∀ m, 0 < B ^ m := rb_pp (by omega)
  have hlt : M r * M q < B ^ 50 := by
    have h1 : M r * M q < B ^ 24 * B ^ 24 := Nat.mul_lt_mul_of_lt_of_le hx (Nat.le_of_lt hy) (hp 24)
    rw [← Nat.pow_add] at h1
    exact Nat.lt_of_lt_of_le h1 (Nat.pow_le_pow_right (by omega) (by omega))
  refine br_t (nI_le (a := 2) hB (by omega)) ?_
  unfold wY_multiplyRow_16
  refine ry_set (v := 0) hB (by omega) ht R (fun b' R' => ?_)
  have e1 : rb_up M t 0 r = M r := rb_upN (fun z => htr z.symm)
  have e2 : rb_up M t 0 q = M q := rb_upN (fun z => htq z.symm)
  refine Exists.intro 25 (ry_mul_o (M := rb_up M t 0) hB hB2 ht hr hq htr htq R' (by rw [e1]; exact hx) (by rw [e2]; exact hy) (fun e h1 h2 => ?_) 25 0 b' (by omega) (by omega) (fun k hk => ?_) (fun k _ => rfl))
  · rw [e1, e2] at h1
    have R2 := rb_RYd R' hlt h1 h2
    refine H e (fun z hz => ?_)
    have R3 := R2 z hz
    by_cases c : z = t
    · rw [c, rb_upS] at R3 ⊢; exact R3
    · rw [rb_upN c, rb_upN c] at R3; rw [rb_upN c]; exact R3
  · rw [Nat.pow_zero, Nat.mod_one, Nat.zero_mul, (R' t ht).2 k hk, rb_upS]
/-- the digits from k on, the others zero -/
theorem rb_hiq {B : Nat} (hB : 0 < B) (Q k i : Nat) : rb_d B (Q / B ^ k * B ^ k) i = if i < k then 0 else rb_d B Q i := by
  by_cases c : i < k
  · rw [if_pos c]
    obtain ⟨m, rfl⟩ : ∃ m, k = i + (m + 1) := ⟨k - i - 1, by omega⟩
    unfold rb_d
    have e : Q / B ^ (i + (m + 1)) * B ^ (i + (m + 1)) = Q / B ^ (i + (m + 1)) * B ^ m * B * B ^ i := by
      rw [Nat.pow_add B i (m + 1), Nat.pow_succ]; grind
    rw [e, Nat.mul_div_cancel _ (rb_pp hB i), Nat.mul_mod_left]
  · rw [if_neg c]
    obtain ⟨m, rfl⟩ : ∃ m, i = k + m := ⟨i - k, by omega⟩
    unfold rb_d
    rw [Nat.pow_add, ← Nat.div_div_eq_div_mul, Nat.mul_div_cancel _ (rb_pp hB k), Nat.div_div_eq_div_mul]
theorem rb_hiq_lt {B : Nat} {Q k n : Nat} (h : Q < B ^ n) : Q / B ^ k * B ^ k < B ^ n := Nat.lt_of_le_of_lt (Nat.div_mul_le_self _ _) h
theorem rb_RYe {B : Nat} {b : Nat → Int32} {M M' : Nat → Nat} (h : ∀ r, r < 10 → M r = M' r) (R : rb_RY B b M) : rb_RY B b M' := by
  intro r hr
  rw [← h r hr]
  exact R r hr
theorem rb_RCe {B : Nat} {b : Nat → Int32} {M M' : Nat → Nat} (h : ∀ r, r < 8 → M r = M' r) (R : rb_RC B b M) : rb_RC B b M' := by
  intro r hr
  rw [← h r hr]
  exact R r hr
/-- one digit of the quotient by taking away -/
theorem ry_div_i {post : SY → Prop} {J : Int32 → Int32 → (Nat → Int32) → Prop} {q a d j V D : Nat} {K : Nat → Nat} (hB : 2 ≤ B) (hB2 : B ≤ 36) (hd : d < 9) (hK : K d = D) (hD : 0 < D) (hVD : V / D < 36)
    (H : ∀ e, rb_RY B e (rb_up K 9 (V % D)) → wY_divideRow_73 post J (nI q) (nI a) (nI d) (nI j) (nI (V / D)) (nI B) e) :
    ∀ n x e, 36 - x < n → x * D ≤ V → rb_RY B e (rb_up K 9 (V - x * D)) → wY_divideRow_43 post J (nI q) (nI a) (nI d) (nI j) n (nI x) (nI B) e := by
  intro n
  induction n with
  | zero => intro x e h; omega
  | succ n ih =>
    intro x e h hx R
    have hxq : x ≤ V / D := (Nat.le_div_iff_mul_le hD).mpr hx
    have e9 : rb_up K 9 (V - x * D) 9 = V - x * D := rb_upS _ _ _
    have ed : rb_up K 9 (V - x * D) d = D := (rb_upN (by omega)).trans hK
    refine pk_le 36 x (fun h1 => absurd h1 (by omega)) (fun h1 => ?_)
    have go : D ≤ V - x * D → ∀ r : Int32, ¬ r < 0 → (r < 0 → wY_divideRow_73 post J (nI q) (nI a) (nI d) (nI j) (nI x) (nI B) e) ∧ (¬ r < 0 → wpY_takeRow (fun u => match u with | (f_radix_24, a_big_25) => (∀ x5_26 : Int32, x5_26 = nI x + 1 → (wY_divideRow_43 post J (nI q) (nI a) (nI d) (nI j) n x5_26 f_radix_24 a_big_25))) (nI B, e) 9 (nI d)) := by
      intro hle r hr
      refine br_f hr (ry_take (r := 9) hB hB2 (by omega) (by omega) (by omega) R (by rw [e9, ed]; exact hle) (fun b' R' => nm_r (nI_1 x) (ih (x + 1) b' (by omega) ?_ ?_)))
      · rw [Nat.add_mul, Nat.one_mul]; omega
      · refine rb_RYe (fun z hz => ?_) R'
        rw [e9, ed]
        by_cases c : z = 9
        · rw [c, rb_upS, rb_upS, Nat.add_mul, Nat.one_mul]; omega
        · rw [rb_upN c, rb_upN c, rb_upN c]
    refine ry_order (r := 9) (q := d) hB hB2 (by omega) (by omega) R (fun h2 => ?_) (fun h2 => ?_) (fun h2 => ?_)
    · rw [e9, ed] at h2
      have hq : V / D = x := by
        have : V / D < x + 1 := (Nat.div_lt_iff_lt_mul hD).mpr (by rw [Nat.add_mul, Nat.one_mul]; omega)
        omega
      have hr : V % D = V - x * D := by
        have := Nat.div_add_mod V D
        rw [hq, Nat.mul_comm] at this
        omega
      rw [hr, hq] at H
      exact br_t (by decide) (H e R)
    · rw [e9, ed] at h2
      exact go (by omega) 0 (by decide)
    · rw [e9, ed] at h2
      exact go (by omega) 1 (by decide)
theorem ry_div_o {post : SY → Prop} {q a d : Nat} (hB : 2 ≤ B) (hB2 : B ≤ 36) (hq : q < 9) (ha : a < 9) (hd : d < 9) (hqa : q ≠ a) (hqd : q ≠ d) (hA : M a < B ^ 24) (hD : M d < B ^ 24) (hD0 : 0 < M d) (R0 : rb_RY B b M)
    (H : ∀ b', rb_RY B b' (rb_up (rb_up (rb_up M q (M a / M d)) 9 (M a % M d)) a (M a % M d)) → post (nI B, b')) :
    ∀ n k e, k ≤ 24 → k < n → rb_RY B e (rb_up (rb_up M q (M a / M d / B ^ k * B ^ k)) 9 (M a / B ^ k % M d)) → wY_divideRow_17 post (nI q) (nI a) (nI d) n (nI k + (-1)) (nI B) e := by
  intro n
  induction n with
  | zero => intro k e _ h; omega
  | succ n ih =>
    intro k e hk h R
    cases k with
    | zero =>
      rw [rb_q0, Nat.pow_zero, Nat.mul_one, Nat.div_one] at R
      exact br_t rb_m1neg (ry_copy (fr := 9) (by omega) (by omega) R (fun b' R' => H b' (by rw [rb_upS] at R'; exact R')))
    | succ j =>
      have hj : j < 50 := by omega
      rw [pk_m1]
      obtain ⟨d1, d2, d3⟩ := rb_dv (B := B) (v := M a) (m := M d) (i := j) (by omega) hD0 rfl
      have hdg := rb_d_lt (B := B) (by omega) (M a) j
      have ea : rb_up (rb_up M q (M a / M d / B ^ (j + 1) * B ^ (j + 1))) 9 (M a / B ^ (j + 1) % M d) a = M a := by rw [rb_upN (by omega), rb_upN (fun z => hqa z.symm)]
      have hdig : e ((50 : Int32) * nI a + nI j).toNatClampNeg = nI (rb_d B (M a) j) := by rw [ry_get R (by omega) hj, ea]
      refine br_f (nI_pos (by omega)) ⟨ry_in (by omega) hj, ?_⟩
      rw [hdig]
      generalize hV : M a / B ^ (j + 1) % M d * B + rb_d B (M a) j = V at *
      have hV50 : V < B ^ 50 := by
        have h1 : M d * B ≤ B ^ 24 * B := Nat.mul_le_mul_right B (Nat.le_of_lt hD)
        rw [← Nat.pow_succ] at h1
        exact Nat.lt_of_lt_of_le d3 (Nat.le_trans h1 (Nat.pow_le_pow_right (by omega) (by omega)))
      refine ry_feed (r := 9) hB (by omega) hdg R (by rw [rb_upS, hV]; exact hV50) (fun b' R' => ?_)
      rw [rb_upS, hV] at R'
      have hlt : V / M d < B := Nat.div_lt_of_lt_mul d3
      refine Exists.intro 37 (ry_div_i (V := V) (D := M d) (K := rb_up M q (M a / M d / B ^ (j + 1) * B ^ (j + 1))) hB hB2 hd (rb_upN (fun z => hqd z.symm)) hD0 (by omega) (fun e' R2 => ?_) 37 0 b' (by omega) (by omega) (rb_RYe (fun z hz => ?_) R'))
      · refine ⟨ry_in (by omega) hj, nm_r (e' := upd e' (50 * q + j) (nI (V / M d))) (by rw [ry_cl (by omega) hj]) (nm_e (ih j _ (by omega) (by omega) ?_))⟩
        have hQ : M a / M d < B ^ 24 := Nat.lt_of_le_of_lt (Nat.div_le_self _ _) hA
        have hQ50 : M a / M d / B ^ j * B ^ j < B ^ 50 := rb_hiq_lt (Nat.lt_of_lt_of_le hQ (Nat.pow_le_pow_right (by omega) (by omega)))
        have R3 := rb_RYd (to := q) (c' := upd e' (50 * q + j) (nI (V / M d))) R2 hQ50 (fun i hi => ?_) (fun k hk => pk_un (by omega))
        · refine rb_RYe (fun z hz => ?_) R3
          rw [d2]
          unfold rb_up
          by_cases c1 : z = q
          · rw [if_pos c1, if_neg (by omega), if_pos c1]
          · rw [if_neg c1, if_neg c1]
            by_cases c2 : z = 9
            · rw [if_pos c2, if_pos c2]
            · rw [if_neg c2, if_neg c2, if_neg c1]
        · rw [rb_hiq (by omega)]
          by_cases c : i = j
          · rw [c, pk_us, if_neg (by omega), d1]
          · rw [pk_un (by omega), (R2 q (by omega)).2 i hi, rb_upN (by omega), rb_upS, rb_hiq (by omega)]
            by_cases c2 : i < j
            · rw [if_pos c2, if_pos (by omega)]
            · rw [if_neg c2, if_neg (by omega)]
      · unfold rb_up
        by_cases c2 : z = 9
        · rw [if_pos c2, if_pos c2]; omega
        · rw [if_neg c2, if_neg c2, if_neg c2]
theorem ry_div {post : SY → Prop} {q a d : Nat} (hB : 2 ≤ B) (hB2 : B ≤ 36) (hq : q < 9) (ha : a < 9) (hd : d < 9) (hqa : q ≠ a) (hqd : q ≠ d) (hA : M a < B ^ 24) (hD : M d < B ^ 24) (hD0 : 0 < M d) (R0 : rb_RY B b M)
    (H : ∀ b', rb_RY B b' (rb_up (rb_up (rb_up M q (M a / M d)) 9 (M a % M d)) a (M a % M d)) → post (nI B, b')) :
    wpY_divideRow post (nI B, b) (nI q) (nI a) (nI d) := by
  unfold wpY_divideRow
  refine ry_set (v := 0) hB (by omega) (by omega) R0 (fun b1 R1 => ?_)
  refine ry_set (to := 9) (v := 0) hB (by omega) (by omega) R1 (fun b2 R2 => ?_)
  have hQ : M a / M d < B ^ 24 := Nat.lt_of_le_of_lt (Nat.div_le_self _ _) hA
  have h := ry_div_o hB hB2 hq ha hd hqa hqd hA hD hD0 R0 H 25 24 b2 (by omega) (by omega) (by
    rw [rb_hi0 (by omega) hQ (Nat.le_refl _), rb_hi0 (by omega) hA (Nat.le_refl _), Nat.zero_mul, Nat.zero_mod]
    exact R2)
  exact Exists.intro 25 h
end
end
section
/-! powers modulo p, roots of unity, bit reversal -/
theorem rx_bit {n b : Nat} (hn : n < 1024) (hb : b < 10) : (nI n >>> (nI b &&& 31)) &&& 1 = nI (n / 2 ^ b % 2) := by
  have h : n / 2 ^ b ≤ n := Nat.div_le_self _ _
  rw [pk_shrN (by omega) _ b (s_l b (by omega)), pk_andN (by omega) 1 (by decide)]
theorem rx_pow_l {post : Int32 → Prop} {x n P : Nat} (hP : 1 < P) (hP2 : P ≤ 46340) (hn : n < 1024) (H : post (nI (x ^ n % P))) :
    ∀ f b, b ≤ 10 → 10 - b < f → wX_powerOf_21 post (nI n) (nI P) f (nI (x ^ (n % 2 ^ b) % P)) (nI (x ^ (2 ^ b) % P)) (nI b) := by
  intro f
  induction f with
  | zero => intro b _ h; omega
  | succ f ih =>
    intro b hb h
    have hne : ¬ nI P = 0 := nI_ne0 (by omega) (by omega)
    have lt1 : x ^ (n % 2 ^ b) % P < P := Nat.mod_lt _ (by omega)
    have lt2 : x ^ (2 ^ b) % P < P := Nat.mod_lt _ (by omega)
    have sq : x ^ (2 ^ b) % P * (x ^ (2 ^ b) % P) ≤ 46340 * 46340 := Nat.mul_le_mul (by omega) (by omega)
    have ml : x ^ (n % 2 ^ b) % P * (x ^ (2 ^ b) % P) ≤ 46340 * 46340 := Nat.mul_le_mul (by omega) (by omega)
    have esq : nI (x ^ (2 ^ b) % P) * nI (x ^ (2 ^ b) % P) - nI (x ^ (2 ^ b) % P) * nI (x ^ (2 ^ b) % P) / nI P * nI P = nI (x ^ (2 ^ (b + 1)) % P) := by
      rw [pk_mul, pk_rem (by omega) (by omega) (by omega), ← Nat.mul_mod, ← Nat.pow_add, show 2 ^ b + 2 ^ b = 2 ^ (b + 1) by rw [Nat.pow_succ]; omega]
    refine pk_le 10 b (fun h1 => ?_) (fun h1 => ?_)
    · obtain rfl : b = 10 := by omega
      rw [Nat.mod_eq_of_lt (show n < 2 ^ 10 from hn)]
      exact H
    · rw [rx_bit hn h1]
      have hm := Nat.mod_pow_succ (x := n) (b := 2) (k := b)
      refine pk_eq (n / 2 ^ b % 2) 1 (fun h2 => ⟨hne, nm_r (e' := nI (x ^ (n % 2 ^ (b + 1)) % P)) ?_ ⟨hne, nm_r esq (nm_r (nI_1 b) (ih (b + 1) (by omega) (by omega)))⟩⟩) (fun h2 => ?_)
      · rw [pk_mul, pk_rem (by omega) (by omega) (by omega), ← Nat.mul_mod, ← Nat.pow_add, hm, h2, Nat.mul_one]
      · have e : n % 2 ^ (b + 1) = n % 2 ^ b := by rw [hm, show n / 2 ^ b % 2 = 0 by omega, Nat.mul_zero, Nat.add_zero]
        have g := ih (b + 1) (by omega) (by omega)
        rw [e] at g
        exact ⟨hne, nm_r esq (nm_r (nI_1 b) g)⟩
theorem rx_pow {post : Int32 → Prop} {x n P : Nat} (hP : 1 < P) (hP2 : P ≤ 46340) (hx : x < 2 ^ 31) (hn : n < 1024) (H : post (nI (x ^ n % P))) : wpX_powerOf post (nI x) (nI n) (nI P) := by
  have hne : ¬ nI P = 0 := nI_ne0 (by omega) (by omega)
  refine br_f (nI_nle (by omega) (by omega)) ⟨hne, nm_r (e' := nI (x ^ (2 ^ 0) % P)) ?_ (Exists.intro 11 ?_)⟩
  · rw [pk_rem hx (by omega) (by omega), Nat.pow_zero, Nat.pow_one]
  · have h := rx_pow_l hP hP2 hn H 11 0 (by omega) (by omega)
    rw [show n % 2 ^ 0 = 0 by rw [Nat.pow_zero, Nat.mod_one], Nat.pow_zero, Nat.mod_eq_of_lt hP] at h
    exact h
/-- the roots that the constructor finds -/
def rx_prime (k : Nat) : Nat := if k = 0 then 193 else if k = 1 then 257 else 449
def rx_root (k : Nat) : Nat := if k = 0 then 125 else if k = 1 then 81 else 391
theorem rx_primeOf {post : Int32 → Prop} {k : Nat} (hk : k < 3) (H : post (nI (rx_prime k))) : wpX_primeOf post (nI k) := by
  match k, hk with
  | 0, _ => exact br_t (by decide) H
  | 1, _ => exact br_f (by decide) (br_t (by decide) H)
  | 2, _ => exact br_f (by decide) (br_f (by decide) H)
theorem rx_find_l {post : Int32 → Prop} {P e G : Nat} (hP : 1 < P) (hP2 : P ≤ 46340) (he : e < 1024) (hPe : (nI P - 1) >>> ((6 : Int32) &&& 31) = nI e) (hG : G < 100)
    (no : ∀ x, x < G → 2 ≤ x → (x ^ e % P) ^ 32 % P ≠ P - 1) (yes : (G ^ e % P) ^ 32 % P = P - 1) (H : post (nI (G ^ e % P))) :
    ∀ n x, 2 ≤ x → x ≤ G → G - x < n → wX_findRoot_2 post (nI P) n (nI x) := by
  intro n
  induction n with
  | zero => intro x _ _ h; omega
  | succ n ih =>
    intro x h2 hx h
    refine pk_le 100 x (fun z => absurd z (by omega)) (fun _ => ?_)
    rw [hPe]
    have e1 : nI P - 1 = nI (P - 1) := pk_sub (b := 1) (by omega)
    have lt : x ^ e % P < P := Nat.mod_lt _ (by omega)
    have lt' : (x ^ e % P) ^ 32 % P < P := Nat.mod_lt _ (by omega)
    refine rx_pow hP hP2 (by omega) he (rx_pow (n := 32) hP hP2 (by omega) (by omega) ?_)
    rw [e1]
    refine pk_eq ((x ^ e % P) ^ 32 % P) (P - 1) (fun z => ?_) (fun z => ?_)
    · by_cases c : x = G
      · rw [c]; exact H
      · exact absurd z (no x (by omega) h2)
    · by_cases c : x = G
      · exact absurd (by rw [c]; exact yes) z
      · exact nm_r (nI_1 x) (ih (x + 1) (by omega) (by omega) (by omega))
theorem rx_find {post : Int32 → Prop} {k : Nat} (hk : k < 3) (H : post (nI (rx_root k))) : wpX_findRoot post (nI (rx_prime k)) := by
  match k, hk with
  | 0, _ => exact Exists.intro 10 (rx_find_l (P := 193) (e := 3) (G := 5) (by decide) (by decide) (by decide) (by decide) (by decide) (by decide +kernel) (by decide +kernel) H 10 2 (by decide) (by decide) (by decide))
  | 1, _ => exact Exists.intro 10 (rx_find_l (P := 257) (e := 4) (G := 3) (by decide) (by decide) (by decide) (by decide) (by decide) (by decide +kernel) (by decide +kernel) H 10 2 (by decide) (by decide) (by decide))
  | 2, _ => exact Exists.intro 10 (rx_find_l (P := 449) (e := 7) (G := 3) (by decide) (by decide) (by decide) (by decide) (by decide) (by decide +kernel) (by decide +kernel) H 10 2 (by decide) (by decide) (by decide))
def nt_rvI (x : Int32) : Nat → Int32
  | 0 => 0
  | b + 1 => nt_rvI x b ||| (((x >>> (nI b &&& 31)) &&& 1) <<< ((5 - nI b) &&& 31))
theorem rx_rev_l {post : Int32 → Prop} {x : Int32} (H : post (nt_rvI x 6)) : ∀ n b, b ≤ 6 → 6 - b < n → wX_reversed_4 post x n (nt_rvI x b) (nI b) := by
  intro n
  induction n with
  | zero => intro b _ h; omega
  | succ n ih =>
    intro b hb h
    refine pk_le 6 b (fun h1 => ?_) (fun h1 => nm_e (nm_r (nI_1 b) (ih (b + 1) (by omega) (by omega))))
    obtain rfl : b = 6 := by omega
    exact H
theorem rx_rev_t : ∀ i : Fin 64, nt_rvI (nI i.val) 6 = nI (nt_rev i.val) := by decide +kernel
theorem rx_rev {post : Int32 → Prop} {i : Nat} (hi : i < 64) (H : post (nI (nt_rev i))) : wpX_reversed post (nI i) := by
  refine Exists.intro 7 ?_
  rw [← rx_rev_t ⟨i, hi⟩] at H
  exact rx_rev_l H 7 0 (by omega) (by omega)
end
section
/-! the transform in place -/
section
variable {B : Nat} {c l g s p t o : Nat → Int32}
/-- what a butterfly leaves at place q -/
def rx_bf (P h : Nat) (f G : Nat → Nat) (q : Nat) : Nat :=
  if q % (2 * h) < h then (if G q + G (q + h) * f (q % h) % P < P then G q + G (q + h) * f (q % h) % P else G q + G (q + h) * f (q % h) % P - P)
  else (if G q * f (q % h) % P ≤ G (q - h) then G (q - h) - G q * f (q % h) % P else G (q - h) + P - G q * f (q % h) % P)
theorem rx_bf_lt {P h : Nat} {f G : Nat → Nat} (hP : 0 < P) (hG : ∀ q, q < 64 → G q < P) {q : Nat} (hq : q < 64) : rx_bf P h f G q < P := by
  unfold rx_bf
  have h1 := Nat.mod_lt (G (q + h) * f (q % h)) hP
  have h2 := Nat.mod_lt (G q * f (q % h)) hP
  have h3 := hG q hq
  have h4 := hG (q - h) (by omega)
  generalize G (q + h) * f (q % h) % P = y1 at *
  generalize G q * f (q % h) % P = y2 at *
  split
  · split <;> omega
  · split <;> omega
theorem rx_lv_t : ∀ k : Fin 32, ∀ i : Fin 6, ((nI k.val >>> ((nI (i.val + 1) - 1) &&& 31)) <<< (nI (i.val + 1) &&& 31)) + (nI k.val &&& (nI (2 ^ i.val) - 1)) = nI (k.val / 2 ^ i.val * (2 * 2 ^ i.val) + k.val % 2 ^ i.val)
    ∧ nI k.val &&& (nI (2 ^ i.val) - 1) = nI (k.val % 2 ^ i.val) := by decide +kernel
theorem rx_lv_u : ∀ i : Fin 6, (64 : Int32) >>> (nI (i.val + 1) &&& 31) = nI (2 ^ (5 - i.val)) ∧ (1 : Int32) <<< ((nI (i.val + 1) - 1) &&& 31) = nI (2 ^ i.val) := by decide +kernel
/-- places of butterflies -/
theorem rx_pl {h : Nat} (H : h = 1 ∨ h = 2 ∨ h = 4 ∨ h = 8 ∨ h = 16 ∨ h = 32) {k : Nat} (hk : k < 32) :
    (k / h * (2 * h) + k % h) + h < 64 ∧ (k / h * (2 * h) + k % h) % (2 * h) < h ∧ ¬ (k / h * (2 * h) + k % h + h) % (2 * h) < h ∧ (k / h * (2 * h) + k % h) % h = k % h ∧ (k / h * (2 * h) + k % h + h) % h = k % h ∧
    (k / h * (2 * h) + k % h) / (2 * h) * h + k % h = k ∧ (k / h * (2 * h) + k % h + h) / (2 * h) * h + k % h = k ∧ k % h < 32 := by
  rcases H with rfl | rfl | rfl | rfl | rfl | rfl <;> omega
theorem rx_pl2 {h : Nat} (H : h = 1 ∨ h = 2 ∨ h = 4 ∨ h = 8 ∨ h = 16 ∨ h = 32) {k q : Nat} (hq : q < 64) (e1 : q ≠ k / h * (2 * h) + k % h) (e2 : q ≠ k / h * (2 * h) + k % h + h) : q / (2 * h) * h + q % h ≠ k := by
  rcases H with rfl | rfl | rfl | rfl | rfl | rfl <;> omega
theorem rx_pl3 {h : Nat} (H : h = 1 ∨ h = 2 ∨ h = 4 ∨ h = 8 ∨ h = 16 ∨ h = 32) {q : Nat} (hq : q < 64) : q / (2 * h) * h + q % h < 32 := by
  rcases H with rfl | rfl | rfl | rfl | rfl | rfl <;> omega
theorem rx_tL_85 {post : SX → Prop} {J : Int32 → (Nat → Int32) → (Nat → Int32) → (Nat → Int32) → (Nat → Int32) → (Nat → Int32) → (Nat → Int32) → (Nat → Int32) → Prop} {w P i h st : Nat} {G : Nat → Nat}
    (hP : 1 < P) (hP2 : P ≤ 449) (hi : i < 6) (hh : h = 2 ^ i) (hst : st < P) (hG : ∀ q, q < 64 → G q < P)
    (H : ∀ l', (∀ q, q < 64 → l' q = nI (rx_bf P h (fun j => st ^ j % P) G q)) → J (nI (i + 2)) c l' g s p t o) :
    ∀ n k l', k ≤ 32 → 32 - k < n → (∀ q, q < 64 → l' q = nI (if q / (2 * h) * h + q % h < k then rx_bf P h (fun j => st ^ j % P) G q else G q)) →
      wX_transformLeft_85 post J (nI w) (nI P) (nI (i + 1)) (nI st) (nI h) (nI B) n (nI k) c l' g s p t o := by
  have Hh : h = 1 ∨ h = 2 ∨ h = 4 ∨ h = 8 ∨ h = 16 ∨ h = 32 := by
    match i, hi, hh with
    | 0, _, e => exact Or.inl e
    | 1, _, e => exact Or.inr (Or.inl e)
    | 2, _, e => exact Or.inr (Or.inr (Or.inl e))
    | 3, _, e => exact Or.inr (Or.inr (Or.inr (Or.inl e)))
    | 4, _, e => exact Or.inr (Or.inr (Or.inr (Or.inr (Or.inl e))))
    | 5, _, e => exact Or.inr (Or.inr (Or.inr (Or.inr (Or.inr e))))
  intro n
  induction n with
  | zero => intro k l' _ h; omega
  | succ n ih =>
    intro k l' hk hn hl
    refine pk_le 32 k (fun h1 => ?_) (fun h1 => ?_)
    · refine nm_r (nI_1 (i + 1)) (H l' (fun q hq => ?_))
      rw [hl q hq, if_pos (Nat.lt_of_lt_of_le (rx_pl3 Hh hq) h1)]
    · obtain ⟨T1, T2⟩ := rx_lv_t ⟨k, h1⟩ ⟨i, hi⟩
      dsimp only at T1 T2
      rw [← hh] at T1 T2
      obtain ⟨p1, p2, p3, p4, p5, p6, p7, p8⟩ := rx_pl Hh h1
      refine nm_r T1 ?_
      rw [T2]
      generalize hlow : k / h * (2 * h) + k % h = low at *
      have lo1 : l' (nI low).toNatClampNeg = nI (G low) := by
        rw [nI_clamp (by omega), hl low (by omega), if_neg (by rw [p4, p6]; omega)]
      have hix : nI low + nI h = nI (low + h) := nI_add low h
      have hin : vp_in (nI low + nI h) 64 := by rw [hix]; exact vp_in_nI p1 (by omega)
      have hcl : (nI low + nI h).toNatClampNeg = low + h := by rw [hix]; exact nI_clamp (by omega)
      have hi1 : l' (nI low + nI h).toNatClampNeg = nI (G (low + h)) := by
        rw [hcl, hl _ p1, if_neg (by rw [p5, p7]; omega)]
      have hf : st ^ (k % h) % P < P := Nat.mod_lt _ (by omega)
      have hx := hG low (by omega)
      have hy := hG (low + h) p1
      have hmul : G (low + h) * (st ^ (k % h) % P) ≤ 449 * 449 := Nat.mul_le_mul (by omega) (by omega)
      have hr := Nat.mod_lt (G (low + h) * (st ^ (k % h) % P)) (show 0 < P by omega)
      have bl : rx_bf P h (fun j => st ^ j % P) G low = (if G low + G (low + h) * (st ^ (k % h) % P) % P < P then G low + G (low + h) * (st ^ (k % h) % P) % P else G low + G (low + h) * (st ^ (k % h) % P) % P - P) := by
        unfold rx_bf
        rw [if_pos p2, p4]
      have bh : rx_bf P h (fun j => st ^ j % P) G (low + h) = (if G (low + h) * (st ^ (k % h) % P) % P ≤ G low then G low - G (low + h) * (st ^ (k % h) % P) % P else G low + P - G (low + h) * (st ^ (k % h) % P) % P) := by
        unfold rx_bf
        rw [if_neg p3, p5, Nat.add_sub_cancel]
      refine rx_pow hP (by omega) (by omega) (by omega) ⟨vp_in_nI (by omega) (by omega), nm_r lo1 ⟨hin, br_f (nI_nle (by omega) (by omega)) ?_⟩⟩
      rw [hi1]
      have hne : ¬ nI P = 0 := nI_ne0 (by omega) (by omega)
      refine ⟨hne, nm_r (e' := nI (G (low + h) * (st ^ (k % h) % P) % P)) (by rw [pk_mul, pk_rem (by omega) (by omega) (by omega)]) ?_⟩
      generalize hyy : G (low + h) * (st ^ (k % h) % P) % P = y at *
      have done : ∀ z : Int32, z = nI (rx_bf P h (fun j => st ^ j % P) G low) → wX_transformLeft_189 post J (wX_transformLeft_85 post J (nI w) (nI P) (nI (i + 1)) (nI st) (nI h) (nI B) n) (nI w) (nI P) (nI (i + 1)) (nI st) (nI h) (nI k) (nI low) (nI (G low)) (nI y) z (nI low) (nI B) c l' g s p t o := by
        intro z hz
        have fin : ∀ l2, l2 = upd (upd l' low (nI (rx_bf P h (fun j => st ^ j % P) G low))) (low + h) (nI (rx_bf P h (fun j => st ^ j % P) G (low + h))) →
            wX_transformLeft_85 post J (nI w) (nI P) (nI (i + 1)) (nI st) (nI h) (nI B) n (nI (k + 1)) c l2 g s p t o := by
          intro l2 e2
          refine ih (k + 1) l2 (by omega) (by omega) (fun q hq => ?_)
          rw [e2]
          by_cases c2 : q = low + h
          · rw [c2, pk_us, p5, p7, if_pos (by omega)]
          · rw [pk_un c2]
            by_cases c1 : q = low
            · rw [c1, pk_us, p4, p6, if_pos (by omega)]
            · rw [pk_un c1, hl q hq]
              have ne := rx_pl2 Hh (k := k) hq (by rw [hlow]; exact c1) (by rw [hlow]; exact c2)
              by_cases c3 : q / (2 * h) * h + q % h < k
              · rw [if_pos c3, if_pos (by omega)]
              · rw [if_neg c3, if_neg (by omega)]
        refine ⟨vp_in_nI (by omega) (by omega), nm_r (e' := upd l' low (nI (rx_bf P h (fun j => st ^ j % P) G low))) (by rw [nI_clamp (by omega), hz]) ?_⟩
        by_cases c4 : y ≤ G low
        · rw [if_pos c4] at bh
          have e0 : nI (G low) - nI y = nI (G low - y) := pk_sub c4
          refine br_t (by rw [e0]; exact nI_pos' (by omega)) ⟨hin, fun l2 e2 => nm_r (nI_1 k) (fin l2 ?_)⟩
          rw [e2, hcl, e0, bh]
        · rw [if_neg c4] at bh
          have hn : nI (G low) - nI y < 0 := pk_sneg (by omega) (by omega)
          refine br_f (Int32.not_le.mpr hn) ⟨hin, fun l2 e2 => nm_r (nI_1 k) (fin l2 ?_)⟩
          have e0 : nI (G low) - nI y + nI P = nI (G low + P - y) := by
            rw [← pk_sub (by omega), ← nI_add]
            generalize nI (G low) = a1
            generalize nI y = a2
            generalize nI P = a3
            grind
          rw [e2, hcl, e0, bh]
      rw [nI_add]
      refine pk_lt (G low + y) P (fun h2 => ?_) (fun h2 => ?_)
      · rw [if_pos h2] at bl
        exact done _ (by rw [bl])
      · rw [if_neg (by omega)] at bl
        exact done _ (by rw [bl, pk_sub h2])
end
end
section
/-! the levels, the reversal, both transforms -/
section
variable {B : Nat} {c l g s p t o : Nat → Int32}
theorem rx_f_c (P w u j : Nat) : nt_c P (((w ^ u % P) ^ j % P : Nat) : Int) ((w : Int) ^ (j * u)) := by
  refine nt_c_t (nt_c_mod P _) ?_
  rw [Int.natCast_pow]
  refine nt_c_t (nt_c_pow (nt_c_mod P (w ^ u)) j) (nt_c_e ?_)
  rw [Int.natCast_pow, ← Int.pow_mul, Nat.mul_comm]
theorem rx_y_c {P w u j v : Nat} : nt_c P ((v * ((w ^ u % P) ^ j % P) % P : Nat) : Int) ((w : Int) ^ (j * u) * (v : Int)) := by
  refine nt_c_t (nt_c_mod P _) ?_
  rw [Int.natCast_mul, Int.mul_comm]
  exact nt_c_mul (rx_f_c P w u j) (nt_c_r _ _)
theorem rx_bf_lo {P w u h q : Nat} {G : Nat → Nat} (hq : q % (2 * h) < h) : nt_c P (rx_bf P h (fun j => (w ^ u % P) ^ j % P) G q : Nat) ((G q : Int) + (w : Int) ^ (q % h * u) * (G (q + h) : Int)) := by
  unfold rx_bf
  rw [if_pos hq]
  have y := rx_y_c (P := P) (w := w) (u := u) (j := q % h) (v := G (q + h))
  refine nt_c_t ?_ (nt_c_add (nt_c_r _ (G q : Int)) y)
  generalize G (q + h) * ((w ^ u % P) ^ (q % h) % P) % P = z
  split
  · exact nt_c_e (Int.natCast_add _ _)
  · refine nt_c_s ⟨1, ?_⟩
    omega
theorem rx_bf_hi {P w u h q : Nat} {G : Nat → Nat} (hP : 0 < P) (hq : ¬ q % (2 * h) < h) : nt_c P (rx_bf P h (fun j => (w ^ u % P) ^ j % P) G q : Nat) ((G (q - h) : Int) - (w : Int) ^ (q % h * u) * (G q : Int)) := by
  unfold rx_bf
  rw [if_neg hq]
  have y := rx_y_c (P := P) (w := w) (u := u) (j := q % h) (v := G q)
  refine nt_c_t ?_ (nt_c_sub (nt_c_r _ (G (q - h) : Int)) y)
  have hz := Nat.mod_lt (G q * ((w ^ u % P) ^ (q % h) % P)) hP
  generalize G q * ((w ^ u % P) ^ (q % h) % P) % P = z at *
  split
  · exact nt_c_e (by omega)
  · refine ⟨1, ?_⟩
    omega
theorem rx_tL_58 {post : SX → Prop} {w P : Nat} {A : Nat → Nat} (hP : 1 < P) (hP2 : P ≤ 449) (hw : w < P) (hW : nt_c P ((w : Int) ^ 32) (-1))
    (H : ∀ (l' : Nat → Int32) (F : Nat → Nat), (∀ k, k < 64 → l' k = nI (F k)) → (∀ k, k < 64 → F k < P ∧ nt_c P (F k : Int) (nt_s 64 (fun i => (A i : Int) * (w : Int) ^ (k * i)))) → post (nI B, c, l', g, s, p, t, o)) :
    ∀ n i (l' : Nat → Int32) (G : Nat → Nat), i ≤ 6 → 6 - i < n → (∀ q, q < 64 → l' q = nI (G q)) → (∀ q, q < 64 → G q < P ∧ nt_c P (G q : Int) (nt_G (fun k => (A k : Int)) (w : Int) (2 ^ i) (2 ^ (6 - i)) q)) →
      wX_transformLeft_58 post (nI w) (nI P) (nI B) n (nI (i + 1)) c l' g s p t o := by
  intro n
  induction n with
  | zero => intro i _ _ _ h; omega
  | succ n ih =>
    intro i l' G hi hn hl hG
    refine pk_lt 6 (i + 1) (fun h1 => ?_) (fun h1 => ?_)
    · obtain rfl : i = 6 := by omega
      refine H l' G hl (fun k hk => ⟨(hG k hk).1, ?_⟩)
      have e := (hG k hk).2
      rw [show (2 : Nat) ^ 6 = 64 from rfl, show (2 : Nat) ^ (6 - 6) = 1 from rfl, nt_G_6 _ _ hk] at e
      exact e
    · have hi6 : i < 6 := by omega
      obtain ⟨U1, U2⟩ := rx_lv_u ⟨i, hi6⟩
      dsimp only at U1 U2
      rw [U1]
      have hu32 : (2 : Nat) ^ (5 - i) ≤ 2 ^ 5 := Nat.pow_le_pow_right (by decide) (by omega)
      refine rx_pow hP (by omega) (by omega) (by omega) (nm_r U2 (Exists.intro 33 (rx_tL_85 hP hP2 hi6 rfl (Nat.mod_lt _ (by omega)) (fun q hq => (hG q hq).1) (fun l2 hl2 => ?_) 33 0 l' (by omega) (by omega) (fun q hq => ?_))))
      · refine ih (i + 1) l2 _ (by omega) (by omega) hl2 (fun q hq => ⟨rx_bf_lt (by omega) (fun q hq => (hG q hq).1) hq, ?_⟩)
        have hH : (2 ^ i = 1 ∧ 2 ^ (5 - i) = 32) ∨ (2 ^ i = 2 ∧ 2 ^ (5 - i) = 16) ∨ (2 ^ i = 4 ∧ 2 ^ (5 - i) = 8) ∨ (2 ^ i = 8 ∧ 2 ^ (5 - i) = 4) ∨ (2 ^ i = 16 ∧ 2 ^ (5 - i) = 2) ∨ (2 ^ i = 32 ∧ 2 ^ (5 - i) = 1) := by
          match i, hi6 with
          | 0, _ => decide
          | 1, _ => decide
          | 2, _ => decide
          | 3, _ => decide
          | 4, _ => decide
          | 5, _ => decide
        have e1 : (2 : Nat) ^ (6 - i) = 2 * 2 ^ (5 - i) := by rw [show 6 - i = (5 - i) + 1 by omega, Nat.pow_succ, Nat.mul_comm]
        have e2 : (2 : Nat) ^ (i + 1) = 2 * 2 ^ i := by rw [Nat.pow_succ, Nat.mul_comm]
        have e3 : (2 : Nat) ^ (6 - (i + 1)) = 2 ^ (5 - i) := by rw [show 6 - (i + 1) = 5 - i by omega]
        rw [e2, e3]
        exact nt_level hW hH (fun q => (G q : Int)) (fun q => (rx_bf P (2 ^ i) (fun j => (w ^ 2 ^ (5 - i) % P) ^ j % P) G q : Int)) (fun q hq => by rw [← e1]; exact (hG q hq).2) (fun q _ hc => rx_bf_lo hc) (fun q _ hc => rx_bf_hi (by omega) hc) q hq
      · rw [hl q hq, if_neg (by omega)]
theorem rx_tL_2 {post : SX → Prop} {w P : Nat} {A : Nat → Nat} 
    (H : ∀ (l' : Nat → Int32), (∀ k, k < 64 → l' k = nI (A (nt_rev k))) → ∃ n, wX_transformLeft_58 post (nI w) (nI P) (nI B) n 1 c l' g s p t o) :
    ∀ n i (l' : Nat → Int32), i ≤ 64 → 64 - i < n → (∀ q, q < 64 → l' q = nI (A (if q < i ∨ nt_rev q < i then nt_rev q else q))) →
      wX_transformLeft_2 post (nI w) (nI P) (nI B) n (nI i) c l' g s p t o := by
  intro n
  induction n with
  | zero => intro i _ _ h; omega
  | succ n ih =>
    intro i l' hi hn hl
    refine pk_le 64 i (fun h1 => ?_) (fun h1 => ?_)
    · refine H l' (fun k hk => ?_)
      rw [hl k hk, if_pos (Or.inl (by omega))]
    · refine rx_rev h1 ?_
      have hr := nt_rev_lt i
      have hrr := nt_rev_rev i h1
      have inj : ∀ q, q < 64 → nt_rev q = i → q = nt_rev i := fun q hq e => by rw [← e, nt_rev_rev q hq]
      generalize hr' : nt_rev i = r at *
      refine pk_le r i (fun h2 => nm_r (nI_1 i) (ih (i + 1) l' (by omega) (by omega) (fun q hq => ?_))) (fun h2 => ?_)
      · rw [hl q hq]
        have iq := inj q hq
        by_cases c1 : q < i ∨ nt_rev q < i
        · rw [if_pos c1, if_pos (by omega)]
        · rw [if_neg c1]
          by_cases c2 : q < i + 1 ∨ nt_rev q < i + 1
          · rw [if_pos c2]
            have e : q = nt_rev q := by
              by_cases c3 : q = i
              · subst c3; omega
              · have := iq (by omega); omega
            rw [← e]
          · rw [if_neg c2]
      · have li : l' i = nI (A i) := by rw [hl i h1, if_neg (by omega)]
        have lr : l' r = nI (A r) := by rw [hl r hr, if_neg (by omega)]
        have ci : (nI i).toNatClampNeg = i := nI_clamp (by omega)
        have cr : (nI r).toNatClampNeg = r := nI_clamp (by omega)
        have ini : vp_in (nI i) 64 := vp_in_nI h1 (by omega)
        have inr : vp_in (nI r) 64 := vp_in_nI hr (by omega)
        refine ⟨ini, nm_r (e' := nI (A i)) (by rw [ci, li]) ⟨inr, ini, nm_r (e' := upd l' i (nI (A r))) (by rw [ci, cr, lr]) ⟨inr, nm_r (e' := upd (upd l' i (nI (A r))) r (nI (A i))) (by rw [cr]) (nm_r (nI_1 i) (ih (i + 1) _ (by omega) (by omega) (fun q hq => ?_)))⟩⟩⟩
        have iq := inj q hq
        by_cases c1 : q = r
        · subst c1; rw [pk_us, if_pos (Or.inr (by omega)), hrr]
        · rw [pk_un c1]
          by_cases c2 : q = i
          · subst c2; rw [pk_us, if_pos (Or.inl (by omega)), hr']
          · rw [pk_un c2, hl q hq]
            by_cases c3 : q < i ∨ nt_rev q < i
            · rw [if_pos c3, if_pos (by omega)]
            · rw [if_neg c3, if_neg (by
                intro c4
                have : nt_rev q = i := by omega
                exact c1 (iq this))]
theorem rx_tL {post : SX → Prop} {w P : Nat} {A : Nat → Nat} (hP : 1 < P) (hP2 : P ≤ 449) (hw : w < P) (hW : nt_c P ((w : Int) ^ 32) (-1)) (hA : ∀ k, k < 64 → A k < P) (hl : ∀ k, k < 64 → l k = nI (A k))
    (H : ∀ (l' : Nat → Int32) (F : Nat → Nat), (∀ k, k < 64 → l' k = nI (F k)) → (∀ k, k < 64 → F k < P ∧ nt_c P (F k : Int) (nt_s 64 (fun i => (A i : Int) * (w : Int) ^ (k * i)))) → post (nI B, c, l', g, s, p, t, o)) :
    wpX_transformLeft post (nI B, c, l, g, s, p, t, o) (nI w) (nI P) := by
  refine Exists.intro 65 (rx_tL_2 (A := A) (fun l' hl' => Exists.intro 7 (rx_tL_58 (A := A) hP hP2 hw hW H 7 0 l' (fun q => A (nt_rev q)) (by omega) (by omega) hl' (fun q hq => ⟨hA _ (nt_rev_lt q), nt_c_e ?_⟩))) 65 0 l (by omega) (by omega) (fun q hq => ?_))
  · rw [show (2 : Nat) ^ 0 = 1 from rfl, show (2 : Nat) ^ (6 - 0) = 64 from rfl, nt_G_0]
  · rw [hl q hq, if_neg (by omega)]
theorem rx_tR_50 {post : SX → Prop} {L R : Nat → Int32}
    (H : ∀ l' g', (∀ k, k < 64 → l' k = R k) → (∀ k, k < 64 → g' k = L k) → post (nI B, c, l', g', s, p, t, o)) :
    ∀ n i (l' g' : Nat → Int32), i ≤ 64 → 64 - i < n → (∀ q, q < 64 → l' q = (if q < i then R q else L q) ∧ g' q = (if q < i then L q else R q)) →
      wX_transformRight_50 post (nI B) n (nI i) c l' g' s p t o := by
  intro n
  induction n with
  | zero => intro i _ _ _ h; omega
  | succ n ih =>
    intro i l' g' hi hn hl
    refine pk_le 64 i (fun h1 => ?_) (fun h1 => ?_)
    · refine H l' g' (fun k hk => ?_) (fun k hk => ?_)
      · rw [(hl k hk).1, if_pos (by omega)]
      · rw [(hl k hk).2, if_pos (by omega)]
    · have ci : (nI i).toNatClampNeg = i := nI_clamp (by omega)
      have ini : vp_in (nI i) 64 := vp_in_nI h1 (by omega)
      have li : l' i = L i := by rw [(hl i h1).1, if_neg (by omega)]
      have gi : g' i = R i := by rw [(hl i h1).2, if_neg (by omega)]
      refine ⟨ini, nm_r (e' := L i) (by rw [ci, li]) ⟨ini, ini, nm_r (e' := upd l' i (R i)) (by rw [ci, gi]) ⟨ini, nm_r (e' := upd g' i (L i)) (by rw [ci]) (nm_r (nI_1 i) (ih (i + 1) _ _ (by omega) (by omega) (fun q hq => ?_)))⟩⟩⟩
      by_cases e : q = i
      · subst e; rw [pk_us, pk_us, if_pos (by omega), if_pos (by omega)]; exact ⟨rfl, rfl⟩
      · rw [pk_un e, pk_un e, (hl q hq).1, (hl q hq).2]
        by_cases e2 : q < i
        · rw [if_pos e2, if_pos e2, if_pos (by omega), if_pos (by omega)]; exact ⟨rfl, rfl⟩
        · rw [if_neg e2, if_neg e2, if_neg (by omega), if_neg (by omega)]; exact ⟨rfl, rfl⟩
theorem rx_tR_2 {post : SX → Prop} {L R : Nat → Int32} {w P : Int32}
    (H : ∀ l' g', (∀ k, k < 64 → l' k = R k) → (∀ k, k < 64 → g' k = L k) → wpX_transformLeft (fun u => match u with | (f_base_3, a_cells_4, a_left_5, a_right_6, a_residues_7, a_product_8, a_rest_9, a_roots_10) => (∃ n50 : Nat, wX_transformRight_50 post f_base_3 n50 0 a_cells_4 a_left_5 a_right_6 a_residues_7 a_product_8 a_rest_9 a_roots_10)) (nI B, c, l', g', s, p, t, o) w P) :
    ∀ n i (l' g' : Nat → Int32), i ≤ 64 → 64 - i < n → (∀ q, q < 64 → l' q = (if q < i then R q else L q) ∧ g' q = (if q < i then L q else R q)) →
      wX_transformRight_2 post w P (nI B) n (nI i) c l' g' s p t o := by
  intro n
  induction n with
  | zero => intro i _ _ _ h; omega
  | succ n ih =>
    intro i l' g' hi hn hl
    refine pk_le 64 i (fun h1 => ?_) (fun h1 => ?_)
    · refine H l' g' (fun k hk => ?_) (fun k hk => ?_)
      · rw [(hl k hk).1, if_pos (by omega)]
      · rw [(hl k hk).2, if_pos (by omega)]
    · have ci : (nI i).toNatClampNeg = i := nI_clamp (by omega)
      have ini : vp_in (nI i) 64 := vp_in_nI h1 (by omega)
      have li : l' i = L i := by rw [(hl i h1).1, if_neg (by omega)]
      have gi : g' i = R i := by rw [(hl i h1).2, if_neg (by omega)]
      refine ⟨ini, nm_r (e' := L i) (by rw [ci, li]) ⟨ini, ini, nm_r (e' := upd l' i (R i)) (by rw [ci, gi]) ⟨ini, nm_r (e' := upd g' i (L i)) (by rw [ci]) (nm_r (nI_1 i) (ih (i + 1) _ _ (by omega) (by omega) (fun q hq => ?_)))⟩⟩⟩
      by_cases e : q = i
      · subst e; rw [pk_us, pk_us, if_pos (by omega), if_pos (by omega)]; exact ⟨rfl, rfl⟩
      · rw [pk_un e, pk_un e, (hl q hq).1, (hl q hq).2]
        by_cases e2 : q < i
        · rw [if_pos e2, if_pos e2, if_pos (by omega), if_pos (by omega)]; exact ⟨rfl, rfl⟩
        · rw [if_neg e2, if_neg e2, if_neg (by omega), if_neg (by omega)]; exact ⟨rfl, rfl⟩
theorem rx_tR {post : SX → Prop} {w P : Nat} {A C : Nat → Nat} (hP : 1 < P) (hP2 : P ≤ 449) (hw : w < P) (hW : nt_c P ((w : Int) ^ 32) (-1)) (hC : ∀ k, k < 64 → C k < P) (hl : ∀ k, k < 64 → l k = nI (A k)) (hg : ∀ k, k < 64 → g k = nI (C k))
    (H : ∀ (l' g' : Nat → Int32) (F : Nat → Nat), (∀ k, k < 64 → l' k = nI (A k)) → (∀ k, k < 64 → g' k = nI (F k)) → (∀ k, k < 64 → F k < P ∧ nt_c P (F k : Int) (nt_s 64 (fun i => (C i : Int) * (w : Int) ^ (k * i)))) → post (nI B, c, l', g', s, p, t, o)) :
    wpX_transformRight post (nI B, c, l, g, s, p, t, o) (nI w) (nI P) := by
  refine Exists.intro 65 (rx_tR_2 (L := l) (R := g) (fun l1 g1 h1 h2 => ?_) 65 0 l g (by omega) (by omega) (fun q hq => ?_))
  · refine rx_tL (A := C) hP hP2 hw hW hC (fun k hk => (h1 k hk).trans (hg k hk)) (fun l2 F h3 h4 => ?_)
    refine Exists.intro 65 (rx_tR_50 (L := l2) (R := g1) (fun l3 g3 h5 h6 => ?_) 65 0 l2 g1 (by omega) (by omega) (fun q hq => ?_))
    · exact H l3 g3 F (fun k hk => (h5 k hk).trans ((h2 k hk).trans (hl k hk))) (fun k hk => (h6 k hk).trans (h3 k hk)) h4
    · rw [if_neg (by omega), if_neg (by omega)]; exact ⟨rfl, rfl⟩
  · rw [if_neg (by omega), if_neg (by omega)]; exact ⟨rfl, rfl⟩
end
end
section
/-! the residues of the sums of digit products -/
theorem nt_m1 {P w : Nat} (h : (w ^ 32 + 1) % P = 0) : nt_c P ((w : Int) ^ 32) (-1) := by
  obtain ⟨m, hm⟩ := nt_c_mod P (w ^ 32 + 1)
  rw [h, Int.natCast_add, Int.natCast_pow] at hm
  refine ⟨-m, ?_⟩
  rw [Int.mul_neg]
  generalize (P : Int) * m = z at *
  generalize (w : Int) ^ 32 = v at *
  omega
theorem nt_o0 : ∀ r, r < 64 → r ≠ 0 → nt_o 125 r 64 % 193 = 0 := by decide +kernel
theorem nt_o1 : ∀ r, r < 64 → r ≠ 0 → nt_o 81 r 64 % 257 = 0 := by decide +kernel
theorem nt_o2 : ∀ r, r < 64 → r ≠ 0 → nt_o 391 r 64 % 449 = 0 := by decide +kernel
theorem rx_pf {k : Nat} (hk : k < 3) : 192 < rx_prime k ∧ rx_prime k ≤ 449 ∧ rx_root k < rx_prime k ∧ (rx_root k ^ 32 + 1) % rx_prime k = 0 ∧ (∀ r, r < 64 → r ≠ 0 → nt_o (rx_root k) r 64 % rx_prime k = 0) ∧
    (64 * (64 ^ (rx_prime k - 2) % rx_prime k)) % rx_prime k = 1 ∧ ((rx_root k ^ 63 % rx_prime k) ^ 32 + 1) % rx_prime k = 0 := by
  match k, hk with
  | 0, _ => exact ⟨by decide, by decide, by decide, by decide +kernel, nt_o0, by decide +kernel, by decide +kernel⟩
  | 1, _ => exact ⟨by decide, by decide, by decide, by decide +kernel, nt_o1, by decide +kernel, by decide +kernel⟩
  | 2, _ => exact ⟨by decide, by decide, by decide, by decide +kernel, nt_o2, by decide +kernel, by decide +kernel⟩
section
variable {B : Nat} {c l g s p t o : Nat → Int32} {N : Nat → Nat}
theorem rx_ixr (k j : Nat) : (64 : Int32) * nI k + nI j = nI (64 * k + j) := by
  show nI 64 * nI k + nI j = _
  rw [pk_mul, nI_add]
theorem rx_cv199 {post : SX → Prop} {k P sc : Nat} {E : Nat → Nat} (hk : k < 3) (hP : 1 < P) (hP2 : P ≤ 449) (hsc : sc < P) (hE : ∀ q, q < 64 → E q < P) (hl : ∀ q, q < 64 → l q = nI (E q))
    (H : post (nI B, c, l, g, rb_fil s (64 * k) (64 * k + 64) (fun q => nI (E (q - 64 * k) * sc % P)), p, t, o)) :
    ∀ n i, i ≤ 64 → 64 - i < n → wX_convolve_199 post (nI k) (nI P) (nI sc) (nI B) n (nI i) c l g (rb_fil s (64 * k) (64 * k + i) (fun q => nI (E (q - 64 * k) * sc % P))) p t o := by
  intro n
  induction n with
  | zero => intro i _ h; omega
  | succ n ih =>
    intro i hi h
    refine pk_le 64 i (fun h1 => ?_) (fun h1 => ?_)
    · obtain rfl : i = 64 := by omega
      exact H
    · have ci : (nI i).toNatClampNeg = i := nI_clamp (by omega)
      have hin : vp_in ((64 : Int32) * nI k + nI i) 192 := by rw [rx_ixr]; exact vp_in_nI (by omega) (by omega)
      have hcl : ((64 : Int32) * nI k + nI i).toNatClampNeg = 64 * k + i := by rw [rx_ixr]; exact nI_clamp (by omega)
      have hm : E i * sc ≤ 449 * 449 := Nat.mul_le_mul (by have := hE i h1; omega) (by omega)
      refine ⟨vp_in_nI h1 (by omega), nI_ne0 (by omega) (by omega), hin, nm_r (e' := rb_fil s (64 * k) (64 * k + (i + 1)) (fun q => nI (E (q - 64 * k) * sc % P))) ?_ (nm_r (nI_1 i) (ih (i + 1) (by omega) (by omega)))⟩
      rw [hcl, ci, hl i h1, pk_mul, pk_rem (by omega) (by omega) (by omega)]
      exact rb_filU (by rw [show 64 * k + i - 64 * k = i by omega])
theorem rx_cv122 {post : SX → Prop} {k : Nat} {F G : Nat → Nat} (hk : k < 3) (ho : o k = nI (rx_root k)) (hF : ∀ q, q < 64 → F q < rx_prime k) (hG : ∀ q, q < 64 → G q < rx_prime k) (hg : ∀ q, q < 64 → g q = nI (G q))
    (H : ∀ (l' : Nat → Int32) (E : Nat → Nat), (∀ q, q < 64 → E q < rx_prime k ∧ nt_c (rx_prime k) (E q : Int) (nt_s 64 (fun i => ((F i * G i % rx_prime k : Nat) : Int) * ((rx_root k ^ 63 % rx_prime k : Nat) : Int) ^ (q * i)))) →
      post (nI B, c, l', g, rb_fil s (64 * k) (64 * k + 64) (fun q => nI (E (q - 64 * k) * (64 ^ (rx_prime k - 2) % rx_prime k) % rx_prime k)), p, t, o)) :
    ∀ n i (l' : Nat → Int32), i ≤ 64 → 64 - i < n → (∀ q, q < 64 → l' q = nI (if q < i then F q * G q % rx_prime k else F q)) →
      wX_convolve_122 post (nI k) (nI (rx_prime k)) (nI (rx_prime k)) (nI B) n (nI i) c l' g s p t o := by
  obtain ⟨f1, f2, f3, f4, f5, f6, f7⟩ := rx_pf hk
  generalize rx_prime k = P at *
  generalize rx_root k = w at *
  have ck : (nI k).toNatClampNeg = k := nI_clamp (by omega)
  intro n
  induction n with
  | zero => intro i _ _ h; omega
  | succ n ih =>
    intro i l' hi h hl
    refine pk_le 64 i (fun h1 => ?_) (fun h1 => ?_)
    · refine ⟨vp_in_nI hk (by omega), ?_⟩
      rw [ck, ho]
      have hv : w ^ 63 % P < P := Nat.mod_lt _ (by omega)
      refine rx_pow (n := 63) (by omega) (by omega) (by omega) (by omega) (rx_tL (A := fun q => F q * G q % P) (by omega) f2 hv (nt_m1 f7) (fun q _ => Nat.mod_lt _ (by omega)) (fun q hq => ?_) (fun l2 E h2 h3 => ?_))
      · rw [hl q hq, if_pos (by omega)]
      · have e2 : nI P - 2 = nI (P - 2) := pk_sub (b := 2) (by omega)
        show wpX_powerOf _ 64 (nI P - 2) (nI P)
        rw [e2]
        refine rx_pow (x := 64) (by omega) (by omega) (by omega) (by omega) (Exists.intro 65 ?_)
        have g2 := rx_cv199 (B := B) (c := c) (l := l2) (g := g) (s := s) (p := p) (t := t) (o := o) (post := post) (E := E) hk (by omega) f2 (Nat.mod_lt (64 ^ (P - 2)) (by omega)) (fun q hq => (h3 q hq).1) h2 (H l2 E h3) 65 0 (by omega) (by omega)
        rw [Nat.add_zero, rb_fil0] at g2
        exact g2
    · have ci : (nI i).toNatClampNeg = i := nI_clamp (by omega)
      have ini : vp_in (nI i) 64 := vp_in_nI h1 (by omega)
      have hm : F i * G i ≤ 449 * 449 := Nat.mul_le_mul (by have := hF i h1; omega) (by have := hG i h1; omega)
      refine ⟨ini, ini, nI_ne0 (by omega) (by omega), ini, nm_r (e' := upd l' i (nI (F i * G i % P))) ?_ (nm_r (nI_1 i) (ih (i + 1) _ (by omega) (by omega) (fun q hq => ?_)))⟩
      · rw [ci, hl i h1, if_neg (by omega), hg i h1, pk_mul, pk_rem (by omega) (by omega) (by omega)]
      · by_cases e : q = i
        · subst e; rw [pk_us, if_pos (by omega)]
        · rw [pk_un e, hl q hq]
          by_cases e2 : q < i
          · rw [if_pos e2, if_pos (by omega)]
          · rw [if_neg e2, if_neg (by omega)]
/-- the residues of the sums are what the last loop writes -/
theorem nt_res {k x y : Nat} (hB : 2 ≤ B) (hk : k < 3) (hx : x < B ^ 24) (hy : y < B ^ 24) {F G E : Nat → Nat}
    (hF : ∀ q, q < 64 → nt_c (rx_prime k) (F q : Int) (nt_s 64 (fun i => (rb_d B x i : Int) * (rx_root k : Int) ^ (q * i))))
    (hG : ∀ q, q < 64 → nt_c (rx_prime k) (G q : Int) (nt_s 64 (fun i => (rb_d B y i : Int) * (rx_root k : Int) ^ (q * i))))
    (hE : ∀ q, q < 64 → nt_c (rx_prime k) (E q : Int) (nt_s 64 (fun i => ((F i * G i % rx_prime k : Nat) : Int) * ((rx_root k ^ 63 % rx_prime k : Nat) : Int) ^ (q * i))))
    (hn : ∀ n, 0 ≤ nt_cv (rb_d B x) (rb_d B y) n) {q : Nat} (hq : q < 64) : E q * (64 ^ (rx_prime k - 2) % rx_prime k) % rx_prime k = (nt_cv (rb_d B x) (rb_d B y) q).toNat % rx_prime k := by
  obtain ⟨f1, f2, f3, f4, f5, f6, f7⟩ := rx_pf hk
  generalize rx_prime k = P at *
  generalize rx_root k = w at *
  apply nt_c_nat
  have h1 := nt_conv (nt_m1 f4) f5 (fun i => (rb_d B x i : Int)) (fun i => (rb_d B y i : Int)) (fun i => (F i : Int)) (fun i => (G i : Int)) (fun i => ((F i * G i % P : Nat) : Int)) ((w ^ 63 % P : Nat) : Int)
    (by have := nt_c_mod P (w ^ 63); rw [Int.natCast_pow] at this; exact this) hF hG
    (fun i hi => by show ((rb_d B x i : Nat) : Int) = 0; rw [rb_d_hi (by omega) hx hi]; rfl) (fun i hi => by show ((rb_d B y i : Nat) : Int) = 0; rw [rb_d_hi (by omega) hy hi]; rfl)
    (fun k _ => by have := nt_c_mod P (F k * G k); rw [Int.natCast_mul] at this; exact this) hq
  rw [Int.natCast_mul, Int.toNat_of_nonneg (hn q)]
  have h2 := nt_c_mul (nt_c_t (hE q hq) h1) (nt_c_r P ((64 ^ (P - 2) % P : Nat) : Int))
  refine nt_c_t h2 ?_
  show nt_c P (64 * nt_cv (rb_d B x) (rb_d B y) q * ((64 ^ (P - 2) % P : Nat) : Int)) (nt_cv (rb_d B x) (rb_d B y) q)
  have h3 := nt_c_mod P (64 * (64 ^ (P - 2) % P))
  rw [f6, Int.natCast_mul] at h3
  have h4 := nt_c_mul (nt_c_s h3) (nt_c_r P (nt_cv (rb_d B x) (rb_d B y) q))
  refine nt_c_t (nt_c_e ?_) (nt_c_t h4 (nt_c_e ?_))
  · generalize ((64 ^ (P - 2) % P : Nat) : Int) = z1
    generalize nt_cv (rb_d B x) (rb_d B y) q = z2
    show 64 * z2 * z1 = 64 * z1 * z2
    grind
  · show (1 : Int) * _ = _
    rw [Int.one_mul]
theorem rx_cv22 {post : SX → Prop} {k a b : Nat} (hB : 2 ≤ B) (hB2 : B ≤ 36) (hk : k < 3) (ha : a < 8) (hb : b < 8) (R : rb_RC B c N) (ho : o k = nI (rx_root k))
    (H : ∀ l' g' s', (∀ i, i < 64 → s' (64 * k + i) = nI ((nt_cv (rb_d B (N a)) (rb_d B (N b)) i).toNat % rx_prime k)) → (∀ j, (j < 64 * k ∨ 64 * k + 64 ≤ j) → s' j = s j) → post (nI B, c, l', g', s', p, t, o)) :
    ∀ n i (l' g' : Nat → Int32), i ≤ 64 → 64 - i < n → (∀ q, q < i → l' q = nI (rb_d B (N a) q) ∧ g' q = nI (rb_d B (N b) q)) →
      wX_convolve_22 post (nI k) (nI a) (nI b) (nI (rx_prime k)) (nI (rx_prime k)) (nI B) n (nI i) c l' g' s p t o := by
  obtain ⟨f1, f2, f3, f4, f5, f6, f7⟩ := rx_pf hk
  have ck : (nI k).toNatClampNeg = k := nI_clamp (by omega)
  intro n
  induction n with
  | zero => intro i _ _ _ h; omega
  | succ n ih =>
    intro i l' g' hi h hl
    refine pk_le 64 i (fun h1 => ?_) (fun h1 => ?_)
    · have ink : vp_in (nI k) 3 := vp_in_nI hk (by omega)
      refine ⟨ink, ?_⟩
      rw [ck, ho]
      refine rx_tL (A := rb_d B (N a)) (by omega) f2 f3 (nt_m1 f4) (fun q _ => by have := rb_d31 hB hB2 (N a) q; omega) (fun q hq => (hl q (by omega)).1) (fun l2 F h2 h3 => ⟨ink, ?_⟩)
      rw [ho]
      refine rx_tR (A := F) (C := rb_d B (N b)) (by omega) f2 f3 (nt_m1 f4) (fun q _ => by have := rb_d31 hB hB2 (N b) q; omega) h2 (fun q hq => (hl q (by omega)).2) (fun l3 g3 G h4 h5 h6 => ?_)
      refine Exists.intro 65 (rx_cv122 hk ho (fun q hq => (h3 q hq).1) (fun q hq => (h6 q hq).1) h5 (fun l4 E hE => ?_) 65 0 l3 (by omega) (by omega) (fun q hq => by rw [h4 q hq, if_neg (by omega)]))
      refine H _ _ _ (fun q hq => ?_) (fun j hj => rb_filO hj)
      rw [rb_filI (by omega) (by omega), show 64 * k + q - 64 * k = q by omega]
      refine congrArg nI (nt_res hB hk (R a ha).1 (R b hb).1 (fun q hq => (h3 q hq).2) (fun q hq => (h6 q hq).2) (fun q hq => (hE q hq).2) (fun n => ?_) hq)
      exact (nt_cv_bd (fun i => by have := rb_d31 hB hB2 (N a) i; omega) (fun i => by have := rb_d31 hB hB2 (N b) i; omega) n).1
    · have ci : (nI i).toNatClampNeg = i := nI_clamp (by omega)
      have ini : vp_in (nI i) 64 := vp_in_nI h1 (by omega)
      have fin : ∀ l2 g2, l2 = upd l' i (nI (rb_d B (N a) i)) → g2 = upd g' i (nI (rb_d B (N b) i)) → wX_convolve_22 post (nI k) (nI a) (nI b) (nI (rx_prime k)) (nI (rx_prime k)) (nI B) n (nI (i + 1)) c l2 g2 s p t o := by
        intro l2 g2 e1 e2
        refine ih (i + 1) l2 g2 (by omega) (by omega) (fun q hq => ?_)
        rw [e1, e2]
        by_cases e : q = i
        · subst e; rw [pk_us, pk_us]; exact ⟨rfl, rfl⟩
        · rw [pk_un e, pk_un e]; exact hl q (by omega)
      refine pk_le 24 i (fun h2 => ?_) (fun h2 => ⟨rx_in ha h2, ?_⟩)
      · refine ⟨ini, fun l2 e1 => br_t (nI_le (a := 24) h2 (by omega)) ⟨ini, fun g2 e2 => nm_r (nI_1 i) (fin l2 g2 ?_ ?_)⟩⟩
        · rw [e1, ci, rb_d_hi (by omega) (R a ha).1 h2]; rfl
        · rw [e2, ci, rb_d_hi (by omega) (R b hb).1 h2]; rfl
      · refine ⟨ini, fun l2 e1 => br_f (nI_ge (b := 24) h2 (by omega)) ⟨rx_in hb h2, ini, fun g2 e2 => nm_r (nI_1 i) (fin l2 g2 ?_ ?_)⟩⟩
        · rw [e1, ci, rx_get R ha h2]
        · rw [e2, ci, rx_get R hb h2]
theorem rx_conv {post : SX → Prop} {k a b : Nat} (hB : 2 ≤ B) (hB2 : B ≤ 36) (hk : k < 3) (ha : a < 8) (hb : b < 8) (R : rb_RC B c N) (ho : o k = nI (rx_root k))
    (H : ∀ l' g' s', (∀ i, i < 64 → s' (64 * k + i) = nI ((nt_cv (rb_d B (N a)) (rb_d B (N b)) i).toNat % rx_prime k)) → (∀ j, (j < 64 * k ∨ 64 * k + 64 ≤ j) → s' j = s j) → post (nI B, c, l', g', s', p, t, o)) :
    wpX_convolve post (nI B, c, l, g, s, p, t, o) (nI k) (nI a) (nI b) := by
  have f := rx_pf hk
  unfold wpX_convolve
  refine rx_primeOf hk ?_
  exact br_f (nI_nle (n := rx_prime k) (by omega) (by omega)) (Exists.intro 65 (rx_cv22 hB hB2 hk ha hb R ho H 65 0 l g (by omega) (by omega) (fun q hq => absurd hq (by omega))))
end
end
section
/-! three residues joined, the carries, the product -/
theorem rb_sd {x y m : Nat} (hy : y < m) (hx : x < m) (hm : m < 2 ^ 30) : (nI y - nI x) - (nI y - nI x) / nI m * nI m = nI y - nI x := by
  have e : (nI y - nI x) / nI m = 0 := by
    apply Int32.toInt_inj.mp
    rw [Int32.toInt_div, pk_sub_toInt (by omega) (by omega), nI_toInt (by omega), Int32.toInt_zero]
    have z : ((y : Int) - x).tdiv m = 0 := by
      by_cases c : x ≤ y
      · exact Int.tdiv_eq_zero_of_lt (by omega) (by omega)
      · rw [show (y : Int) - x = -((x : Int) - y) by omega, Int.neg_tdiv, Int.tdiv_eq_zero_of_lt (by omega) (by omega)]; rfl
    rw [z]; rfl
  rw [e, Int32.zero_mul, Int32.sub_zero]
theorem rx_j_neg {x y m : Nat} (hy : y < x) (hx : x ≤ m) (hm : m < 2 ^ 30) : nI y - nI x + nI m = nI (y + m - x) := by
  rw [← pk_sub (by omega), ← nI_add]
  generalize nI y = a1
  generalize nI x = a2
  generalize nI m = a3
  grind
theorem rx_joined {post : Int32 → Prop} {v : Nat} (hv : v < 22270849) (H : post (nI v)) : wpX_joined post (nI (v % 193)) (nI (v % 257)) (nI (v % 449)) := by
  unfold wpX_joined
  refine rx_pow (x := 193) (n := 255) (P := 257) (by decide) (by decide) (by decide) (by decide) ?_
  rw [show 193 ^ 255 % 257 = 4 by decide +kernel]
  have hx : v % 193 < 193 := Nat.mod_lt _ (by decide)
  have hy : v % 257 < 257 := Nat.mod_lt _ (by decide)
  have hz : v % 449 < 449 := Nat.mod_lt _ (by decide)
  refine ⟨by decide, nm_r (rb_sd (m := 257) hy (by omega) (by decide)) ?_⟩
  have part : ∀ d, d * 4 % 257 = (v % 257 + 257 - v % 193) * 4 % 257 → d < 257 → wX_joined_38 post (nI (v % 193)) (nI (v % 449)) (nI 4) (nI d) := by
    intro d hd hd2
    have c1 := nt_crt1 (c := v) rfl rfl hd
    have e1 : nI d * nI 4 - nI d * nI 4 / 257 * 257 = nI (d * 4 % 257) := by
      rw [pk_mul]
      exact pk_rem (d := 257) (by omega) (by decide) (by decide)
    have hw : v % 49601 < 49601 := Nat.mod_lt _ (by decide)
    refine ⟨by decide, nm_r (e' := nI (v % 49601)) ?_ ?_⟩
    · rw [e1, ← c1]
      show nI (v % 193) + nI 193 * nI (d * 4 % 257) = _
      rw [pk_mul, nI_add]
    · refine rx_pow (x := 211) (n := 447) (P := 449) (by decide) (by decide) (by decide) (by decide) ?_
      rw [show 211 ^ 447 % 449 = 266 by decide +kernel]
      have e2 : nI (v % 49601) - nI (v % 49601) / 449 * 449 = nI (v % 49601 % 449) := pk_rem (d := 449) (by omega) (by decide) (by decide)
      have hm : v % 49601 % 449 < 449 := Nat.mod_lt _ (by decide)
      refine ⟨by decide, by decide, ?_⟩
      rw [e2]
      refine nm_r (rb_sd (m := 449) hz hm (by decide)) ?_
      have part2 : ∀ d, d * 266 % 449 = (v % 449 + 449 - v % 49601 % 449) * 266 % 449 → d < 449 → wX_joined_100 post (nI (v % 49601)) (nI 266) (nI d) := by
        intro d hd hd2
        have c2 := nt_crt2 (c := v) hv rfl rfl hd
        have e3 : nI d * nI 266 - nI d * nI 266 / 449 * 449 = nI (d * 266 % 449) := by
          rw [pk_mul]
          exact pk_rem (d := 449) (by omega) (by decide) (by decide)
        refine ⟨by decide, ?_⟩
        rw [e3]
        have e4 : nI (v % 49601) + 49601 * nI (d * 266 % 449) = nI v := by
          show nI (v % 49601) + nI 49601 * nI (d * 266 % 449) = _
          rw [pk_mul, nI_add, c2]
        rw [e4]
        exact H
      by_cases c : v % 49601 % 449 ≤ v % 449
      · rw [pk_sub c]
        exact br_t (nI_pos' (by omega)) (part2 _ (by omega) (by omega))
      · have hn : nI (v % 449) - nI (v % 49601 % 449) < 0 := pk_sneg (by omega) (by omega)
        refine br_f (Int32.not_le.mpr hn) ?_
        have e5 := rx_j_neg (m := 449) (show v % 449 < v % 49601 % 449 by omega) (by omega) (by decide)
        have q := part2 (v % 449 + 449 - v % 49601 % 449) rfl (by omega)
        rw [← e5] at q
        exact q
  by_cases c : v % 193 ≤ v % 257
  · rw [pk_sub c]
    exact br_t (nI_pos' (by omega)) (part _ (by omega) (by omega))
  · have hn : nI (v % 257) - nI (v % 193) < 0 := pk_sneg (by omega) (by omega)
    refine br_f (Int32.not_le.mpr hn) ?_
    have e5 := rx_j_neg (m := 257) (show v % 257 < v % 193 by omega) (by omega) (by decide)
    have q := part (v % 257 + 257 - v % 193) rfl (by omega)
    rw [← e5] at q
    exact q
section
variable {B : Nat} {c l g s p t o : Nat → Int32} {N : Nat → Nat}
theorem rx_m104 {post : SX → Prop} {to V : Nat} (ht : to < 8) (hp : ∀ i, i < 64 → p i = nI (rb_d B V i))
    (H : post (nI B, rb_fil c (24 * to) (24 * to + 24) (fun k => nI (rb_d B V (k - 24 * to))), l, g, s, p, t, o)) :
    ∀ n j, j ≤ 24 → 24 - j < n → wX_multiplyInto_104 post (nI to) (nI B) n (nI j) (rb_fil c (24 * to) (24 * to + j) (fun k => nI (rb_d B V (k - 24 * to)))) l g s p t o := by
  intro n
  induction n with
  | zero => intro j _ h; omega
  | succ n ih =>
    intro j hj h
    refine pk_le 24 j (fun h1 => ?_) (fun h1 => ?_)
    · obtain rfl : j = 24 := by omega
      exact H
    · refine ⟨vp_in_nI (by omega) (by omega), rx_in ht h1, nm_r (e' := rb_fil c (24 * to) (24 * to + (j + 1)) (fun k => nI (rb_d B V (k - 24 * to)))) ?_ (nm_r (nI_1 j) (ih (j + 1) (by omega) (by omega)))⟩
      rw [rx_cl ht h1, nI_clamp (by omega), hp j (by omega)]
      exact rb_filU (by rw [show 24 * to + j - 24 * to = j by omega])
theorem rx_m29 {post : SX → Prop} {to V : Nat} {w : Nat → Nat} (hB : 2 ≤ B) (hB2 : B ≤ 36) (ht : to < 8) (R : rb_RC B c N) (hw : ∀ i, w i ≤ 705600)
    (hs : ∀ i, i < 64 → s i = nI (w i % 193) ∧ s (64 + i) = nI (w i % 257) ∧ s (128 + i) = nI (w i % 449))
    (H : ∀ c' p', rb_RC B c' (rb_up N to (V % B ^ 24)) → (∀ i, i < 64 → p' i = nI (rb_d B V i)) → post (nI B, c', l, g, s, p', t, o)) :
    ∀ n i y (p' : Nat → Int32), i ≤ 64 → 64 - i < n → y ≤ 705600 → V / B ^ i = rb_val B (64 - i) (fun k => w (i + k)) + y → (∀ q, q < i → p' q = nI (rb_d B V q)) →
      wX_multiplyInto_29 post (nI to) (nI B) n (nI y) (nI i) c l g s p' t o := by
  intro n
  induction n with
  | zero => intro i _ _ _ h; omega
  | succ n ih =>
    intro i y p' hi h hy he hp
    refine pk_le 64 i (fun h1 => ?_) (fun h1 => ?_)
    · obtain rfl : i = 64 := by omega
      have g1 := rx_m104 (B := B) (c := c) (l := l) (g := g) (s := s) (p := p') (t := t) (o := o) (post := post) (V := V) ht hp (H _ p' (rb_RCf R (Nat.mod_lt _ (rb_pp (by omega) 24)) (fun q hq => by
        rw [rb_d_mod _ hq, show 24 * to + q - 24 * to = q by omega])) hp) 25 0 (by omega) (by omega)
      rw [Nat.add_zero, rb_fil0] at g1
      exact Exists.intro 25 g1
    · rw [show 64 - i = (64 - (i + 1)) + 1 by omega] at he
      obtain ⟨t1, t2⟩ := rb_cs (by omega) he
      have hwi := hw i
      have hne : ¬ nI B = 0 := nI_ne0 (by omega) (by omega)
      have ci : (nI i).toNatClampNeg = i := nI_clamp (by omega)
      have i2 : (64 : Int32) + nI i = nI (64 + i) := nI_add 64 i
      have i3 : (128 : Int32) + nI i = nI (128 + i) := nI_add 128 i
      have c2 : ((64 : Int32) + nI i).toNatClampNeg = 64 + i := by rw [i2]; exact nI_clamp (by omega)
      have c3 : ((128 : Int32) + nI i).toNatClampNeg = 128 + i := by rw [i3]; exact nI_clamp (by omega)
      obtain ⟨s1, s2, s3⟩ := hs i h1
      refine ⟨vp_in_nI (by omega) (by omega), by rw [i2]; exact vp_in_nI (by omega) (by omega), by rw [i3]; exact vp_in_nI (by omega) (by omega), ?_⟩
      rw [ci, c2, c3, s1, s2, s3]
      refine rx_joined (v := w i) (by omega) ?_
      have hq : (w i + y) / B ≤ 705600 := by
        have : (w i + y) / B ≤ (w i + y) / 2 := Nat.div_le_div_left hB (by decide)
        omega
      refine nm_r (nI_add _ _) ⟨hne, vp_in_nI h1 (by omega), nm_r (e' := upd p' i (nI (rb_d B V i))) ?_ ⟨hne, nm_r (pk_div (by omega) (by omega) (by omega)) (nm_r (nI_1 i) (ih (i + 1) _ _ (by omega) (by omega) hq t2 (fun q hq => ?_)))⟩⟩
      · rw [pk_rem (by omega) (by omega) (by omega), t1]
      · by_cases e : q = i
        · subst e; rw [pk_us]
        · rw [pk_un e]; exact hp q (by omega)
theorem rx_mulInto {post : SX → Prop} {to a b : Nat} (hB : 2 ≤ B) (hB2 : B ≤ 36) (ht : to < 8) (ha : a < 8) (hb : b < 8) (R : rb_RC B c N) (ho : ∀ k, k < 3 → o k = nI (rx_root k))
    (H : ∀ c' l' g' s' p', rb_RC B c' (rb_up N to (N a * N b % B ^ 24)) → (∀ i, i < 64 → p' i = nI (rb_d B (N a * N b) i)) → post (nI B, c', l', g', s', p', t, o)) :
    wpX_multiplyInto post (nI B, c, l, g, s, p, t, o) (nI to) (nI a) (nI b) := by
  have loop : ∀ n k (l' g' s' : Nat → Int32), k ≤ 3 → 3 - k < n → (∀ j, j < k → ∀ i, i < 64 → s' (64 * j + i) = nI ((nt_cv (rb_d B (N a)) (rb_d B (N b)) i).toNat % rx_prime j)) →
      wX_multiplyInto_3 post (nI to) (nI a) (nI b) n (nI k) (nI B) c l' g' s' p t o := by
    intro n
    induction n with
    | zero => intro k _ _ _ _ h; omega
    | succ n ih =>
      intro k l' g' s' hk h hs
      refine pk_le 3 k (fun h1 => ?_) (fun h1 => ?_)
      · have bd := fun n => nt_cv_bd (x := rb_d B (N a)) (y := rb_d B (N b)) (fun i => by have := rb_d31 hB hB2 (N a) i; omega) (fun i => by have := rb_d31 hB hB2 (N b) i; omega) n
        refine Exists.intro 65 (rx_m29 (w := fun n => (nt_cv (rb_d B (N a)) (rb_d B (N b)) n).toNat) (V := N a * N b) hB hB2 ht R (fun i => ?_) (fun i hi => ⟨?_, ?_, ?_⟩) (fun c' p' R' hp' => H c' l' g' s' p' R' hp') 65 0 0 p (by omega) (by omega) (by omega) ?_ (fun q hq => absurd hq (by omega)))
        · have := bd i
          show (nt_cv (rb_d B (N a)) (rb_d B (N b)) i).toNat ≤ 705600
          omega
        · have := hs 0 (by omega) i hi
          rw [show 64 * 0 + i = i by omega] at this
          exact this
        · exact hs 1 (by omega) i hi
        · exact hs 2 (by omega) i hi
        · rw [rb_q0, Nat.add_zero, ← nt_prod (R a ha).1 (R b hb).1]
          exact rb_val_c B 64 _ _ (fun i _ => by rw [Nat.zero_add])
      · refine rx_conv hB hB2 h1 ha hb R (ho k h1) (fun l2 g2 s2 h2 h3 => nm_r (nI_1 k) (ih (k + 1) l2 g2 s2 (by omega) (by omega) (fun j hj i hi => ?_)))
        by_cases e : j = k
        · subst e; exact h2 i hi
        · rw [h3 _ (by omega)]; exact hs j (by omega) i hi
  exact Exists.intro 4 (loop 4 0 l g s (by omega) (by omega) (fun j hj => absurd hj (by omega)))
theorem rx_over {post : Int32 → Prop} {V : Nat} (hB : 2 ≤ B) (hB2 : B ≤ 36) (hV : V < B ^ 64) (hp : ∀ i, i < 64 → p i = nI (rb_d B V i)) (H0 : V < B ^ 24 → post 0) (H1 : ¬ V < B ^ 24 → post 1) :
    wpX_isOver post (nI B, c, l, g, s, p, t, o) := by
  have loop : ∀ n j, 24 ≤ j → j ≤ 64 → 64 - j < n → (∀ i, 24 ≤ i → i < j → rb_d B V i = 0) → wX_isOver_3 post (nI B) c l g s p t o n (nI j) := by
    intro n
    induction n with
    | zero => intro j _ _ h; omega
    | succ n ih =>
      intro j h24 hj h hz
      refine pk_le 64 j (fun h1 => ?_) (fun h1 => ?_)
      · obtain rfl : j = 64 := by omega
        exact H0 (rb_zd (by omega) 64 hV hz)
      · refine ⟨vp_in_nI h1 (by omega), ?_⟩
        rw [nI_clamp (by omega), hp j h1]
        have hx := rb_d31 hB hB2 V j
        refine pk_eq (rb_d B V j) 0 (fun z => nm_r (nI_1 j) (ih (j + 1) (by omega) (by omega) (by omega) (fun i h2 h3 => ?_))) (fun z => H1 (fun y => z (rb_d_hi (by omega) y h24)))
        by_cases e : i = j
        · rw [e]; exact z
        · exact hz i h2 (by omega)
  exact Exists.intro 65 (loop 65 24 (by omega) (by omega) (by omega) (fun i h1 h2 => absurd h2 (by omega)))
theorem rb_mul64 {B x y : Nat} (hB : 2 ≤ B) (hx : x < B ^ 24) (hy : y < B ^ 24) : x * y < B ^ 64 := by
  have h1 : x * y < B ^ 24 * B ^ 24 := Nat.mul_lt_mul_of_lt_of_le hx (Nat.le_of_lt hy) (rb_pp (by omega) 24)
  rw [← Nat.pow_add] at h1
  exact Nat.lt_of_lt_of_le h1 (Nat.pow_le_pow_right (by omega) (by omega))
end
end
section
/-! long division -/
theorem rb_ceil {B q d : Nat} (hd : d < B) : (q * B + B - 1 - d) / B = q := by
  have e : q * B + B - 1 - d = B * q + (B - 1 - d) := by rw [Nat.mul_comm B q]; omega
  have z : (B - 1 - d) / B = 0 := Nat.div_eq_of_lt (by omega)
  rw [e, Nat.mul_add_div (by omega), z, Nat.add_zero]
section
variable {B : Nat} {c l g s p t o : Nat → Int32} {N : Nat → Nat}
theorem rx_ix2 (r j : Nat) : (24 : Int32) * nI r + nI (j + 2) - 2 = nI (24 * r + j) := by
  rw [rx_ix]
  exact pk_sub (b := 2) (by omega)
theorem rx_est {post : Int32 → Prop} {b L V : Nat} (hB : 2 ≤ B) (hB2 : B ≤ 36) (hb : b < 8) (R : rb_RC B c N) (hL : L ≤ 24) (hL0 : 0 < L) (hD : N b < B ^ L) (hD0 : 0 < N b) (ht : ∀ i, i < 26 → t i = nI (rb_d B V i)) (hV : V < N b * B)
    (H : ∀ q, q ≤ V / N b → post (nI q)) : wpX_estimate post (nI B, c, l, g, s, p, t, o) (nI b) (nI L) := by
  have hVL : V < B ^ (L + 1) := by
    have : N b * B ≤ B ^ L * B := Nat.mul_le_mul_right B (Nat.le_of_lt hD)
    rw [← Nat.pow_succ] at this
    exact Nat.lt_of_lt_of_le hV this
  have hBB : B * B ≤ 36 * 36 := Nat.mul_le_mul hB2 hB2
  have d36 := rb_d31 hB hB2
  have mB : ∀ x, x < 36 → x * B ≤ 35 * 36 := fun x hx => Nat.mul_le_mul (by omega) hB2
  match L, hL0 with
  | 1, _ =>
    have e0 : N b = rb_d B (N b) 0 := by
      have h := rb_st B (N b) 0
      rw [rb_q0, rb_hi0 (by omega) hD (by omega), Nat.mul_zero, Nat.zero_add] at h
      exact h
    have eV : V = rb_d B V 1 * B + rb_d B V 0 := by
      have h := rb_st B V 0
      have h1 := rb_st B V 1
      rw [rb_hi0 (by omega) hVL (Nat.le_refl _), Nat.mul_zero, Nat.zero_add] at h1
      rw [rb_q0, Nat.zero_add, h1, Nat.mul_comm] at h
      exact h
    have g0 := rx_get R hb (j := 0) (by omega)
    have hd := d36 (N b) 0
    have h1 := d36 V 1
    have h0 := d36 V 0
    rw [← e0] at hd
    have m1 := mB _ h1
    have m2 := mB _ hd
    have hV1 : V ≤ 35 * 36 + 35 := by omega
    have m3 : V * B ≤ (35 * 36 + 35) * 36 := Nat.mul_le_mul hV1 hB2
    refine br_t (by decide) (br_t (by decide) ⟨rx_in1 hb (j := 0) (by omega), nm_r (e' := nI (N b * B)) ?_ ⟨by exact vp_in_nI (n := 1) (by omega) (by omega), by exact vp_in_nI (n := 0) (by omega) (by omega), nm_r (e' := nI (V * B)) ?_ ⟨?_, ?_⟩⟩⟩)
    · rw [show c ((24 : Int32) * nI b + nI 1 - 1).toNatClampNeg = nI (N b) by rw [rx_cl1 hb (j := 0) (by omega), (R b hb).2 0 (by omega), ← e0], pk_mul]
      exact Int32.add_zero _
    · have a1 : t (nI 1).toNatClampNeg = nI (rb_d B V 1) := by rw [nI_clamp (by omega), ht 1 (by omega)]
      have a0 : t (nI 1 - 1).toNatClampNeg = nI (rb_d B V 0) := by rw [show nI 1 - 1 = nI 0 by decide, nI_clamp (by omega), ht 0 (by omega)]
      rw [a1, a0, pk_mul, nI_add, ← eV, pk_mul]
      exact Int32.add_zero _
    · rw [nI_1]; exact nI_ne0 (by omega) (by omega)
    · rw [nI_1, pk_div (by omega) (by omega) (by omega)]
      refine H _ ?_
      have h2 : V * B / (N b * B + 1) ≤ V * B / (N b * B) := Nat.div_le_div_left (by omega) (Nat.mul_pos hD0 (by omega))
      rw [Nat.mul_div_mul_right _ _ (by omega)] at h2
      exact h2
  | m + 2, _ =>
    have eh : N b / B ^ m = rb_d B (N b) (m + 1) * B + rb_d B (N b) m := by
      have h := rb_st B (N b) m
      have h1 := rb_st B (N b) (m + 1)
      rw [rb_hi0 (by omega) hD (Nat.le_refl _), Nat.mul_zero, Nat.zero_add] at h1
      rw [h1, Nat.mul_comm] at h
      exact h
    have et : V / B ^ m = (rb_d B V (m + 2) * B + rb_d B V (m + 1)) * B + rb_d B V m := by
      have h := rb_st B V m
      have h1 := rb_st B V (m + 1)
      have h2 := rb_st B V (m + 2)
      rw [rb_hi0 (by omega) hVL (Nat.le_refl _), Nat.mul_zero, Nat.zero_add] at h2
      rw [show m + 1 + 1 = m + 2 from rfl, h2, Nat.mul_comm] at h1
      rw [h1, Nat.mul_comm] at h
      exact h
    have b1 := d36 (N b) (m + 1)
    have b0 := d36 (N b) m
    have v2 := d36 V (m + 2)
    have v1 := d36 V (m + 1)
    have v0 := d36 V m
    have mb := mB _ b1
    have mv := mB _ v2
    have mv2 : (rb_d B V (m + 2) * B + rb_d B V (m + 1)) * B ≤ (35 * 36 + 35) * 36 := Nat.mul_le_mul (by omega) hB2
    have i2 := rx_ix2 b m
    have n2 : nI (m + 2) - 2 = nI m := pk_sub (b := 2) (by omega)
    have n1 : nI (m + 2) - 1 = nI (m + 1) := nI_pred (m + 1)
    have hx : ¬ nI (m + 2) ≤ 1 := nI_ge (a := 1) (by omega) (by omega)
    refine br_f hx ⟨by rw [i2]; exact vp_in_nI (by omega) (by omega), br_f hx ⟨by rw [n2]; exact vp_in_nI (by omega) (by omega), ⟨rx_in1 hb (j := m + 1) (by omega), nm_r (e' := nI (N b / B ^ m)) ?_ ⟨vp_in_nI (by omega) (by omega), by rw [n1]; exact vp_in_nI (by omega) (by omega), nm_r (e' := nI (V / B ^ m)) ?_ ⟨?_, ?_⟩⟩⟩⟩⟩
    · have e1 : c ((24 : Int32) * nI b + nI (m + 2) - 1).toNatClampNeg = nI (rb_d B (N b) (m + 1)) := by rw [rx_cl1 hb (j := m + 1) (by omega), (R b hb).2 (m + 1) (by omega)]
      have e2 : c ((24 : Int32) * nI b + nI (m + 2) - 2).toNatClampNeg = nI (rb_d B (N b) m) := by rw [i2, nI_clamp (by omega), (R b hb).2 m (by omega)]
      rw [e1, e2, pk_mul, nI_add, eh]
    · have a2 : t (nI (m + 2)).toNatClampNeg = nI (rb_d B V (m + 2)) := by rw [nI_clamp (by omega), ht _ (by omega)]
      have a1 : t (nI (m + 2) - 1).toNatClampNeg = nI (rb_d B V (m + 1)) := by rw [n1, nI_clamp (by omega), ht _ (by omega)]
      have a0 : t (nI (m + 2) - 2).toNatClampNeg = nI (rb_d B V m) := by rw [n2, nI_clamp (by omega), ht _ (by omega)]
      rw [a2, a1, a0, pk_mul, nI_add, pk_mul, nI_add, et]
    · rw [nI_1]; exact nI_ne0 (by omega) (by omega)
    · rw [nI_1, pk_div (by omega) (by omega) (by omega)]
      refine H _ ?_
      rw [Nat.div_div_eq_div_mul]
      exact Nat.div_le_div_left (Nat.le_of_lt (Nat.lt_mul_div_succ _ (rb_pp (by omega) m))) hD0
theorem rx_fits {post : Int32 → Prop} {b V : Nat} (hB : 2 ≤ B) (hB2 : B ≤ 36) (hb : b < 8) (R : rb_RC B c N) (ht : ∀ i, i < 26 → t i = nI (rb_d B V i)) (hV : V < B ^ 26)
    (H0 : V < N b → post 0) (H1 : N b ≤ V → post 1) : wpX_fitsIn post (nI B, c, l, g, s, p, t, o) (nI b) := by
  have hD26 : N b < B ^ 26 := Nat.lt_of_lt_of_le (R b hb).1 (Nat.pow_le_pow_right (by omega) (by omega))
  have loop : ∀ n k, k ≤ 26 → k < n → V / B ^ k = N b / B ^ k → wX_fitsIn_3 post (nI b) (nI B) c l g s p t o n (nI k + (-1)) := by
    intro n
    induction n with
    | zero => intro k _ h; omega
    | succ n ih =>
      intro k hk h he
      cases k with
      | zero => exact br_t rb_m1neg (H1 (by rw [rb_q0, rb_q0] at he; omega))
      | succ j =>
        have hj : j < 26 := by omega
        rw [pk_m1]
        have hx := rb_d31 hB hB2 V j
        have hy := rb_d31 hB hB2 (N b) j
        have body : wX_fitsIn_40 post (wX_fitsIn_3 post (nI b) (nI B) c l g s p t o n) (nI b) (nI j) (nI (rb_d B V j) - nI (rb_d B (N b) j)) (nI B) c l g s p t o := by
          rcases Nat.lt_trichotomy (rb_d B V j) (rb_d B (N b) j) with q | q | q
          · have hn : nI (rb_d B V j) - nI (rb_d B (N b) j) < 0 := pk_sneg (by omega) q
            exact br_f (fun z => by rw [z] at hn; exact absurd hn (by decide)) (br_t (Int32.le_of_lt hn) (H0 (rb_c_lt he q)))
          · exact br_t (by rw [q, Int32.sub_self]) (nm_e (ih j (by omega) (by omega) (rb_c_eq he q)))
          · have hn : (0 : Int32) < nI (rb_d B V j) - nI (rb_d B (N b) j) := by
              rw [pk_sub (by omega)]
              exact nI_lt (a := 0) (by omega) (by omega)
            exact br_f (fun z => by rw [z] at hn; exact absurd hn (by decide)) (br_f (Int32.not_le.mpr hn) (H1 (Nat.le_of_lt (rb_c_lt he.symm q))))
        have ej : t (nI j).toNatClampNeg = nI (rb_d B V j) := by rw [nI_clamp (by omega), ht j hj]
        refine br_f (nI_pos (by omega)) (pk_le 24 j (fun h1 => ⟨vp_in_nI hj (by omega), ?_⟩) (fun h1 => ⟨vp_in_nI hj (by omega), rx_in hb h1, ?_⟩))
        · rw [rb_d_hi (by omega) (R b hb).1 h1, nI_0, Int32.sub_zero] at body
          rw [ej]
          exact body
        · rw [ej, rx_get R hb h1]
          exact body
  have h := loop 27 26 (by omega) (by omega) (by rw [rb_hi0 (by omega) hV (Nat.le_refl _), rb_hi0 (by omega) hD26 (Nat.le_refl _)])
  exact Exists.intro 27 h
theorem rx_take {post : SX → Prop} {b V T : Nat} (hB : 2 ≤ B) (hB2 : B ≤ 36) (hb : b < 8) (R : rb_RC B c N) (hT : T ≤ 36) (ht : ∀ i, i < 26 → t i = nI (rb_d B V i)) (hle : T * N b ≤ V)
    (H : ∀ t', (∀ i, i < 26 → t' i = nI (rb_d B (V - T * N b) i)) → post (nI B, c, l, g, s, p, t', o)) : wpX_takeOff post (nI B, c, l, g, s, p, t, o) (nI b) (nI T) := by
  generalize hD : V - T * N b = D at *
  have loop : ∀ n i y (t' : Nat → Int32), i ≤ 26 → 26 - i < n → y ≤ T → V / B ^ i = T * (N b / B ^ i) + D / B ^ i + y → (∀ q, q < 26 → t' q = nI (rb_d B (if q < i then D else V) q)) →
      wX_takeOff_5 post (nI b) (nI T) (nI B) n (nI y) (nI i) c l g s p t' o := by
    intro n
    induction n with
    | zero => intro i _ _ _ h; omega
    | succ n ih =>
      intro i y t' hi h hy he hq
      refine pk_le 26 i (fun h1 => ?_) (fun h1 => ?_)
      · refine H t' (fun j hj => ?_)
        rw [hq j hj, if_pos (by omega)]
      · obtain ⟨t1, t2⟩ := rb_ts (by omega) he
        have hx := rb_d_lt (B := B) (by omega) (N b) i
        have hz := rb_d_lt (B := B) (by omega) D i
        have hm : T * rb_d B (N b) i ≤ T * (B - 1) := Nat.mul_le_mul_left T (by omega)
        have hTB : T * (B - 1) + T = T * B := by
          obtain ⟨m, rfl⟩ : ∃ m, B = m + 1 := ⟨B - 1, by omega⟩
          rw [Nat.add_sub_cancel, Nat.mul_add, Nat.mul_one]
        have hTB2 : T * B ≤ 36 * 36 := Nat.mul_le_mul hT hB2
        generalize hw : T * rb_d B (N b) i + rb_d B D i + y = w at *
        have tk := rb_tk (w := w) (B := B) (k := T * rb_d B (N b) i) (D := rb_d B D i) (y := y) hw.symm rfl
        have hq1 : w / B ≤ T := by
          have : w / B < T + 1 := (Nat.div_lt_iff_lt_mul (by omega)).mpr (by rw [Nat.add_mul, Nat.one_mul]; omega)
          omega
        have hqB : w / B * B ≤ 36 * 36 := Nat.mul_le_mul (by omega) hB2
        have ci : (nI i).toNatClampNeg = i := nI_clamp (by omega)
        have ini : vp_in (nI i) 26 := vp_in_nI h1 (by omega)
        have et : t' i = nI (w % B) := by rw [hq i h1, if_neg (by omega), t1]
        have fin : ∀ t2', t2' = upd t' i (nI (rb_d B D i)) → ∀ y', y' = nI (w / B) → wX_takeOff_5 post (nI b) (nI T) (nI B) n y' (nI (i + 1)) c l g s p t2' o := by
          intro t2' e1 y' e2
          rw [e2]
          refine ih (i + 1) (w / B) t2' (by omega) (by omega) hq1 t2 (fun q hq2 => ?_)
          rw [e1]
          by_cases e : q = i
          · subst e; rw [pk_us, if_pos (by omega)]
          · rw [pk_un e, hq q hq2]
            by_cases e3 : q < i
            · rw [if_pos e3, if_pos (by omega)]
            · rw [if_neg e3, if_neg (by omega)]
        have body : wX_takeOff_37 post (wX_takeOff_5 post (nI b) (nI T) (nI B) n) (nI b) (nI T) (nI y) (nI i) (nI (T * rb_d B (N b) i)) (nI B) c l g s p t' o := by
          refine ⟨ini, nm_r (e' := nI (rb_d B D i) - nI (w / B * B)) (by rw [ci, et, tk]) ?_⟩
          by_cases h2 : w < B
          · have e0 := Nat.div_eq_of_lt h2
            rw [e0, Nat.zero_mul, nI_0, Int32.sub_zero]
            refine br_t (nI_pos' (by omega)) ⟨ini, fun t2' e1 => nm_r (nI_1 i) (fin t2' (by rw [e1, ci]) 0 (by rw [e0]; rfl))⟩
          · have hge : 1 ≤ w / B := Nat.div_pos (by omega) (by omega)
            have hge2 : 1 * B ≤ w / B * B := Nat.mul_le_mul_right B hge
            have hn : nI (rb_d B D i) - nI (w / B * B) < 0 := pk_sneg (by omega) (by omega)
            have hne : ¬ nI B = 0 := nI_ne0 (by omega) (by omega)
            have e1 : -(nI (rb_d B D i) - nI (w / B * B)) + nI B - 1 = nI (w / B * B + B - 1 - rb_d B D i) := by
              have k : nI (w / B * B + B - 1 - rb_d B D i) + nI (rb_d B D i) + 1 = nI (w / B * B) + nI B := by
                rw [nI_add, nI_1, nI_add]; exact congrArg nI (by omega)
              generalize nI (w / B * B + B - 1 - rb_d B D i) = a1 at *
              generalize nI (rb_d B D i) = a2 at *
              generalize nI (w / B * B) = a3 at *
              generalize nI B = a4 at *
              grind
            have e2 : (w / B * B + B - 1 - rb_d B D i) / B = w / B := rb_ceil hz
            refine br_f (Int32.not_le.mpr hn) ⟨hne, nm_r (e' := nI (w / B)) (by rw [e1, pk_div (by omega) (by omega) (by omega), e2]) (nm_r (e' := nI (rb_d B D i)) (by rw [pk_mul, Int32.sub_add_cancel]) ⟨ini, fun t2' e3 => nm_r (nI_1 i) (fin t2' (by rw [e3, ci]) _ rfl)⟩)⟩
        refine pk_le 24 i (fun h2 => ?_) (fun h2 => ⟨rx_in hb h2, ?_⟩)
        · rw [rb_d_hi (by omega) (R b hb).1 h2, Nat.mul_zero] at body
          exact body
        · rw [rx_get R hb h2, pk_mul]
          exact body
  exact Exists.intro 27 (loop 27 0 0 t (by omega) (by omega) (by omega) (by rw [rb_q0, rb_q0, rb_q0]; omega) (fun q hq => by rw [ht q hq, if_neg (by omega)]))
end
end
section
/-! long division, the whole -/
section
variable {B : Nat} {c l g s p t o : Nat → Int32} {N : Nat → Nat}
theorem rx_d108 {post : SX → Prop} {J : Int32 → Int32 → (Nat → Int32) → (Nat → Int32) → (Nat → Int32) → (Nat → Int32) → (Nat → Int32) → (Nat → Int32) → (Nat → Int32) → Prop} {q a b i V : Nat} {L : Int32} (hB : 2 ≤ B) (hB2 : B ≤ 36) (hb : b < 8) (R : rb_RC B c N)
    (hi : i < 24) (hD0 : 0 < N b) (hVD : V / N b < 36) (hV : V < B ^ 26)
    (H : ∀ t', (∀ j, j < 26 → t' j = nI (rb_d B (V % N b) j)) → J (nI i + (-1)) (nI B) c l g s (upd p i (nI (V / N b))) t' o) :
    ∀ n x k (t' : Nat → Int32), 36 - k < n → k ≤ x → x * N b ≤ V → (∀ j, j < 26 → t' j = nI (rb_d B (V - x * N b) j)) →
      wX_divideInto_108 post J (nI q) (nI a) (nI b) L (nI i) n (nI x) (nI k) (nI B) c l g s p t' o := by
  intro n
  induction n with
  | zero => intro x k t' h; omega
  | succ n ih =>
    intro x k t' h hkx hx ht
    have hxq : x ≤ V / N b := (Nat.le_div_iff_mul_le hD0).mpr hx
    have ci : (nI i).toNatClampNeg = i := nI_clamp (by omega)
    have ini : vp_in (nI i) 64 := vp_in_nI (by omega) (by omega)
    refine pk_le 36 k (fun h1 => absurd h1 (by omega)) (fun h1 => ?_)
    refine rx_fits hB hB2 hb R ht (Nat.lt_of_le_of_lt (Nat.sub_le _ _) hV) (fun h2 => ?_) (fun h2 => ?_)
    · have hq : V / N b = x := by
        have : V / N b < x + 1 := (Nat.div_lt_iff_lt_mul hD0).mpr (by rw [Nat.add_mul, Nat.one_mul]; omega)
        omega
      have hr : V % N b = V - x * N b := by
        have := Nat.div_add_mod V (N b)
        rw [hq, Nat.mul_comm] at this
        omega
      rw [hr, hq] at H
      exact br_t rfl ⟨ini, nm_r (e' := upd p i (nI x)) (by rw [ci]) (nm_e (H t' ht))⟩
    · refine br_f (by decide) (rx_take (T := 1) hB hB2 hb R (by omega) ht (by rw [Nat.one_mul]; exact h2) (fun t2 ht2 => nm_r (nI_1 x) (nm_r (nI_1 k) (ih (x + 1) (k + 1) t2 (by omega) (by omega) ?_ ?_))))
      · rw [Nat.add_mul, Nat.one_mul]; omega
      · intro j hj
        rw [ht2 j hj, show V - (x + 1) * N b = V - x * N b - 1 * N b by rw [Nat.add_mul]; omega]
theorem rx_d44 {post : SX → Prop} {J : Int32 → Int32 → (Nat → Int32) → (Nat → Int32) → (Nat → Int32) → (Nat → Int32) → (Nat → Int32) → (Nat → Int32) → (Nat → Int32) → Prop} {q a b i L r : Nat} (hB : 2 ≤ B) (hB2 : B ≤ 36) (ha : a < 8) (hb : b < 8) (R : rb_RC B c N)
    (hi : i < 24) (hL : L ≤ 24) (hL0 : 0 < L) (hD : N b < B ^ L) (hD0 : 0 < N b) (hr : r < N b) (ht : ∀ j, j < 26 → t j = nI (rb_d B r j))
    (H : ∀ t', (∀ j, j < 26 → t' j = nI (rb_d B ((r * B + rb_d B (N a) i) % N b) j)) → J (nI i + (-1)) (nI B) c l g s (upd p i (nI ((r * B + rb_d B (N a) i) / N b))) t' o) :
    ∀ n k (t' : Nat → Int32), k ≤ 25 → k < n → (∀ j, j < 26 → t' j = if k < j then t (j - 1) else t j) →
      wX_divideInto_44 post J (nI q) (nI a) (nI b) (nI L) (nI i) (nI B) n (nI k) c l g s p t' o := by
  intro n
  induction n with
  | zero => intro k t' _ h; omega
  | succ n ih =>
    intro k t' hk h hs
    cases k with
    | zero =>
      refine br_t (by decide) ⟨rx_in ha hi, ?_⟩
      rw [rx_get R ha hi]
      have hd := rb_d_lt (B := B) (by omega) (N a) i
      have hV : r * B + rb_d B (N a) i < N b * B := by
        have : (r + 1) * B ≤ N b * B := Nat.mul_le_mul_right B hr
        rw [Nat.add_mul, Nat.one_mul] at this
        omega
      have hV26 : r * B + rb_d B (N a) i < B ^ 26 := by
        have h1 : N b * B ≤ B ^ 24 * B := Nat.mul_le_mul_right B (Nat.le_of_lt (R b hb).1)
        rw [← Nat.pow_succ] at h1
        exact Nat.lt_of_lt_of_le hV (Nat.le_trans h1 (Nat.pow_le_pow_right (by omega) (by omega)))
      intro t2 e2
      have ht2 : ∀ j, j < 26 → t2 j = nI (rb_d B (r * B + rb_d B (N a) i) j) := by
        intro j hj
        rw [e2, show r * B + rb_d B (N a) i = rb_d B (N a) i + B * r by rw [Nat.mul_comm, Nat.add_comm]]
        cases j with
        | zero => rw [pk_us, rb_d_Z hd]
        | succ j => rw [pk_un (by omega), hs _ hj, if_pos (by omega), rb_d_S (by omega) hd, Nat.add_sub_cancel, ht j (by omega)]
      generalize hVV : r * B + rb_d B (N a) i = V at *
      have hVD : V / N b < B := Nat.div_lt_of_lt_mul hV
      refine rx_est hB hB2 hb R hL hL0 hD hD0 ht2 hV (fun x hx => ?_)
      have hxD : x * N b ≤ V := (Nat.le_div_iff_mul_le hD0).mp hx
      refine rx_take hB hB2 hb R (by omega) ht2 hxD (fun t3 ht3 => ?_)
      exact Exists.intro 37 (rx_d108 hB hB2 hb R hi hD0 (by omega) hV26 H 37 x 0 t3 (by omega) (by omega) hxD ht3)
    | succ k =>
      have n1 : nI (k + 1) - 1 = nI k := nI_pred k
      refine br_f (nI_nle (by omega) (by omega)) ⟨by rw [n1]; exact vp_in_nI (by omega) (by omega), vp_in_nI (by omega) (by omega), nm_r (e' := upd t' (k + 1) (t k)) ?_ (nm_r (pk_m1 k) (ih k _ (by omega) (by omega) (fun j hj => ?_)))⟩
      · rw [n1, nI_clamp (by omega), nI_clamp (by omega), hs k (by omega), if_neg (by omega)]
      · by_cases e : j = k + 1
        · subst e; rw [pk_us, if_pos (by omega), Nat.add_sub_cancel]
        · rw [pk_un e, hs j hj]
          by_cases e2 : k < j
          · rw [if_pos e2, if_pos (by omega)]
          · rw [if_neg e2, if_neg (by omega)]
theorem rx_d163 {post : SX → Prop} {q a Q r : Nat} (hq : q < 8) (ha : a < 8) (hqa : q ≠ a) (R : rb_RC B c N) (hp : ∀ j, j < 24 → p j = nI (rb_d B Q j)) (ht : ∀ j, j < 26 → t j = nI (rb_d B r j)) (hQ : Q < B ^ 24) (hr : r < B ^ 24)
    (H : ∀ c', rb_RC B c' (rb_up (rb_up N q Q) a r) → post (nI B, c', l, g, s, p, t, o)) :
    ∀ n i (c' : Nat → Int32), i ≤ 24 → 24 - i < n → (∀ j, j < i → c' (24 * q + j) = nI (rb_d B Q j) ∧ c' (24 * a + j) = nI (rb_d B r j)) → (∀ k, (k < 24 * q ∨ 24 * q + 24 ≤ k) → (k < 24 * a ∨ 24 * a + 24 ≤ k) → c' k = c k) →
      wX_divideInto_163 post (nI q) (nI a) (nI B) n (nI i) c' l g s p t o := by
  intro n
  induction n with
  | zero => intro i _ _ h; omega
  | succ n ih =>
    intro i c' hi h h1 h2
    refine pk_le 24 i (fun h3 => ?_) (fun h3 => ?_)
    · refine H c' (fun z hz => ?_)
      by_cases e : z = a
      · subst e; rw [rb_upS]; exact ⟨hr, fun j hj => (h1 j (by omega)).2⟩
      · rw [rb_upN e]
        by_cases e2 : z = q
        · subst e2; rw [rb_upS]; exact ⟨hQ, fun j hj => (h1 j (by omega)).1⟩
        · rw [rb_upN e2]
          exact ⟨(R z hz).1, fun j hj => (h2 _ (by omega) (by omega)).trans ((R z hz).2 j hj)⟩
    · refine ⟨vp_in_nI (by omega) (by omega), rx_in hq h3, nm_r (e' := upd c' (24 * q + i) (nI (rb_d B Q i))) (by rw [rx_cl hq h3, nI_clamp (by omega), hp i h3]) ⟨vp_in_nI (by omega) (by omega), rx_in ha h3,
        nm_r (e' := upd (upd c' (24 * q + i) (nI (rb_d B Q i))) (24 * a + i) (nI (rb_d B r i))) (by rw [rx_cl ha h3, nI_clamp (by omega), ht i (by omega)]) (nm_r (nI_1 i) (ih (i + 1) _ (by omega) (by omega) (fun j hj => ?_) (fun k k1 k2 => ?_)))⟩⟩
      · constructor
        · rw [pk_un (by omega)]
          by_cases e : j = i
          · subst e; rw [pk_us]
          · rw [pk_un (by omega)]; exact (h1 j (by omega)).1
        · by_cases e : j = i
          · subst e; rw [pk_us]
          · rw [pk_un (by omega), pk_un (by omega)]; exact (h1 j (by omega)).2
      · rw [pk_un (by omega), pk_un (by omega)]; exact h2 k k1 k2
theorem rx_d35 {post : SX → Prop} {q a b L : Nat} (hB : 2 ≤ B) (hB2 : B ≤ 36) (hq : q < 8) (ha : a < 8) (hb : b < 8) (hqa : q ≠ a) (R : rb_RC B c N)
    (hL : L ≤ 24) (hL0 : 0 < L) (hD : N b < B ^ L) (hD0 : 0 < N b)
    (H : ∀ c' p' t', rb_RC B c' (rb_up (rb_up N q (N a / N b)) a (N a % N b)) → post (nI B, c', l, g, s, p', t', o)) :
    ∀ n k (p' t' : Nat → Int32), k ≤ 24 → k < n → (∀ j, k ≤ j → j < 24 → p' j = nI (rb_d B (N a / N b) j)) → (∀ j, j < 26 → t' j = nI (rb_d B (N a / B ^ k % N b) j)) →
      wX_divideInto_35 post (nI q) (nI a) (nI b) (nI L) n (nI k + (-1)) (nI B) c l g s p' t' o := by
  intro n
  induction n with
  | zero => intro k _ _ _ h; omega
  | succ n ih =>
    intro k p' t' hk h hp ht
    cases k with
    | zero =>
      rw [rb_q0] at ht
      refine br_t rb_m1neg (Exists.intro 25 (rx_d163 hq ha hqa R (fun j hj => hp j (by omega) hj) ht (Nat.lt_of_le_of_lt (Nat.div_le_self _ _) (R a ha).1) (Nat.lt_of_le_of_lt (Nat.mod_le _ _) (R a ha).1) (fun c' R' => H c' p' t' R') 25 0 c (by omega) (by omega) (fun j hj => absurd hj (by omega)) (fun k _ _ => rfl)))
    | succ i =>
      have hi : i < 24 := by omega
      rw [pk_m1]
      obtain ⟨d1, d2, d3⟩ := rb_dv (B := B) (v := N a) (m := N b) (i := i) (by omega) hD0 rfl
      refine br_f (nI_pos (by omega)) (Exists.intro 26 (rx_d44 (r := N a / B ^ (i + 1) % N b) hB hB2 ha hb R hi hL hL0 hD hD0 (Nat.mod_lt _ hD0) ht (fun t2 ht2 => ?_) 26 25 t' (by omega) (by omega) (fun j hj => by rw [if_neg (by omega)])))
      rw [d2] at ht2
      rw [d1]
      refine ih i _ t2 (by omega) (by omega) (fun j h1 h2 => ?_) ht2
      by_cases e : j = i
      · subst e; rw [pk_us]
      · rw [pk_un e]; exact hp j (by omega) h2
theorem rx_div {post : SX → Prop} {q a b : Nat} (hB : 2 ≤ B) (hB2 : B ≤ 36) (hq : q < 8) (ha : a < 8) (hb : b < 8) (hqa : q ≠ a) (R : rb_RC B c N) (hD0 : 0 < N b)
    (H : ∀ c' p' t', rb_RC B c' (rb_up (rb_up N q (N a / N b)) a (N a % N b)) → post (nI B, c', l, g, s, p', t', o)) :
    wpX_divideInto post (nI B, c, l, g, s, p, t, o) (nI q) (nI a) (nI b) := by
  unfold wpX_divideInto
  refine rx_len hB hB2 hb R (fun L hL hD hge => ?_)
  have hL0 : 0 < L := by
    refine Nat.pos_of_ne_zero fun e => ?_
    subst e
    rw [Nat.pow_zero] at hD
    omega
  have loop : ∀ n i (t' : Nat → Int32), i ≤ 26 → 26 - i < n → (∀ j, j < i → t' j = 0) → wX_divideInto_10 post (nI q) (nI a) (nI b) (nI L) (nI B) n (nI i) c l g s p t' o := by
    intro n
    induction n with
    | zero => intro i _ _ h; omega
    | succ n ih =>
      intro i t' hi h hz
      refine pk_le 26 i (fun h1 => ?_) (fun h1 => ?_)
      · have h2 := rx_d35 (l := l) (g := g) (s := s) (o := o) hB hB2 hq ha hb hqa R hL hL0 hD hD0 H 25 24 p t' (by omega) (by omega) (fun j h3 h4 => absurd h4 (by omega)) (fun j hj => by
          rw [rb_hi0 (by omega) (R a ha).1 (Nat.le_refl _), Nat.zero_mod, rb_d0]; exact hz j (by omega))
        exact Exists.intro 25 h2
      · refine ⟨vp_in_nI (by omega) (by omega), nm_r (e' := upd t' i 0) (by rw [nI_clamp (by omega)]) (nm_r (nI_1 i) (ih (i + 1) _ (by omega) (by omega) (fun j hj => ?_)))⟩
        by_cases e : j = i
        · subst e; rw [pk_us]
        · rw [pk_un e]; exact hz j (by omega)
  exact Exists.intro 27 (loop 27 0 t (by omega) (by omega) (fun j hj => absurd hj (by omega)))
end
end
section
/-! the relation; the small calls -/
/-- both sides hold the same four numbers in the same radix; the component knows its three roots -/
def i_Rel (k : Nat) (u : SX) (v : SY) : Prop := ∃ (B : Nat) (c l g s p t o b : Nat → Int32) (N M : Nat → Nat), u = (nI B, c, l, g, s, p, t, o) ∧ v = (nI B, b) ∧ 2 ≤ B ∧ B ≤ 36 ∧ rb_RC B c N ∧ rb_RY B b M ∧ (∀ q, q < 4 → M q = N q) ∧ (∀ j, j < 3 → o j = nI (rx_root j))
theorem i_up {k : Nat} {u : SX} {v : SY} (h : i_Rel k u v) : i_Rel (k + 4) u v := h
theorem rb_mk {k B : Nat} {c l g s p t o b : Nat → Int32} {N M : Nat → Nat} (hB : 2 ≤ B) (hB2 : B ≤ 36) (R : rb_RC B c N) (Y : rb_RY B b M) (e : ∀ q, q < 4 → M q = N q) (ho : ∀ j, j < 3 → o j = nI (rx_root j)) :
    i_Rel k (nI B, c, l, g, s, p, t, o) (nI B, b) := ⟨B, c, l, g, s, p, t, o, b, N, M, rfl, rfl, hB, hB2, R, Y, e, ho⟩
theorem rx_init92 {post : SX → Prop} {f : Int32} {c l g s p t : Nat → Int32} (H : ∀ o', (∀ j, j < 3 → o' j = nI (rx_root j)) → post (f, c, l, g, s, p, t, o')) (o : Nat → Int32) : ∃ n, wX_init_92 post f n 0 c l g s p t o := by
  have loop : ∀ n k (o' : Nat → Int32), k ≤ 3 → 3 - k < n → (∀ j, j < k → o' j = nI (rx_root j)) → wX_init_92 post f n (nI k) c l g s p t o' := by
    intro n
    induction n with
    | zero => intro k _ _ h; omega
    | succ n ih =>
      intro k o' hk h ho
      refine pk_le 3 k (fun h1 => ?_) (fun h1 => ?_)
      · exact H o' (fun j hj => ho j (by omega))
      · refine rx_primeOf h1 (rx_find h1 ⟨vp_in_nI h1 (by omega), nm_r (e' := upd o' k (nI (rx_root k))) (by rw [nI_clamp (by omega)]) (nm_r (nI_1 k) (ih (k + 1) _ (by omega) (by omega) (fun j hj => ?_)))⟩)
        by_cases e : j = k
        · subst e; rw [pk_us]
        · rw [pk_un e]; exact ho j (by omega)
  exact Exists.intro 4 (loop 4 0 o (by omega) (by omega) (fun j hj => absurd hj (by omega)))
theorem rb_RC0 {B : Nat} (hB : 2 ≤ B) : rb_RC B (fun _ => 0) (fun _ => 0) := fun r _ => ⟨rb_pp (by omega) 24, fun i _ => by rw [rb_d0]; rfl⟩
theorem rb_RY0 {B : Nat} (hB : 2 ≤ B) : rb_RY B (fun _ => 0) (fun _ => 0) := fun r _ => ⟨rb_pp (by omega) 50, fun i _ => by rw [rb_d0]; rfl⟩
theorem rb_i0 {B : Nat} (hB : 2 ≤ B) (hB2 : B ≤ 36) {o : Nat → Int32} (ho : ∀ j, j < 3 → o j = nI (rx_root j)) : i_Rel 1 (nI B, (fun _ => 0), (fun _ => 0), (fun _ => 0), (fun _ => 0), (fun _ => 0), (fun _ => 0), o) (nI B, (fun _ => 0)) :=
  rb_mk hB hB2 (rb_RC0 hB) (rb_RY0 hB) (fun _ _ => rfl) ho
theorem i_vc0 (k0 : Int32) : wpX_init (fun u => wpY_init (fun v => i_Rel 1 u v) k0) k0 := by
  by_cases h2 : 2 ≤ k0
  · refine br_t h2 ?_
    by_cases h36 : k0 ≤ 36
    · obtain ⟨j, hj, rfl⟩ := nI_of2 (x := k0) (M := 36) (n := 36) (by decide) (Int32.not_lt.mpr (Int32.le_trans (by decide) h2)) h36
      have hB : 2 ≤ j := (nI_leI (a := 2) (by omega) (by omega)).mp h2
      exact br_t h36 (rx_init92 (fun o' ho => br_t h2 (br_t h36 (rb_i0 hB hj ho))) _)
    · exact br_f h36 (rx_init92 (fun o' ho => br_t h2 (br_f h36 (rb_i0 (B := 36) (by omega) (by omega) ho))) _)
  · exact br_f h2 (br_t (by decide) (rx_init92 (fun o' ho => br_f h2 (rb_i0 (B := 2) (by omega) (by omega) ho)) _))
theorem i_vc_radix {k : Nat} {u : SX} {v : SY} (I : i_Rel k u v) (hk : k + 4 ≤ 2049) : wpX_radix (fun r => wpY_radix (fun r' => r' = r ∧ i_Rel (k + 4) u v) v) u := by
  have K := i_up I
  obtain ⟨B, c, l, g, s, p, t, o, b, N, M, rfl, rfl, hB, hB2, R, Y, e, ho⟩ := I
  exact ⟨rfl, K⟩
theorem rb_p50 {B v : Nat} (hB : 2 ≤ B) (h : v < B ^ 24) : v < B ^ 50 := Nat.lt_of_lt_of_le h (Nat.pow_le_pow_right (by omega) (by omega))
theorem rb_nlt {x : Int32} {n : Nat} (h : nI n ≤ x) : ¬ x < nI n := Int32.not_lt.mpr h
theorem rb_n0 {x : Int32} {n : Nat} (hn : n < 2 ^ 31) (h : nI n ≤ x) : ¬ x < 0 := Int32.not_lt.mpr (Int32.le_trans (nI_pos' hn) h)
theorem i_vc_set {k : Nat} {u : SX} {v : SY} (I : i_Rel k u v) (hk : k + 4 ≤ 2049) (v1 : Int32) (v2 : Int32) (v3 : Int32) : wpX_set (fun r u' => wpY_set (fun r' v' => r' = r ∧ i_Rel (k + 4) u' v') v v1 v2 v3) u v1 v2 v3 := by
  have K := i_up I
  obtain ⟨B, c, l, g, s, p, t, o, b, N, M, rfl, rfl, hB, hB2, R, Y, e, ho⟩ := I
  unfold wpX_set
  rcases rb_reg v1 with ⟨a, ha, rfl⟩ | ⟨hX, hY⟩
  · refine rx_reg ha (br_f (by decide) ?_)
    rcases pk_ix v2 (n := 24) (by omega) with h | h | ⟨i, hi, rfl⟩
    · refine br_t h ?_
      unfold wpY_set
      exact ry_reg ha (br_t rfl (br_t h ⟨rfl, K⟩))
    · refine br_f (rb_n0 (by omega) h) (br_f (rb_nlt h) ?_)
      unfold wpY_set
      exact ry_reg ha (br_t rfl (br_f (rb_n0 (by omega) h) (br_f (fun z => absurd (Int32.le_trans h z) (by decide)) ⟨rfl, K⟩)))
    · refine br_f (nI_pos (by omega)) (br_t (nI_lt (b := 24) hi (by omega)) ?_)
      rcases pk_ix v3 (n := B) (by omega) with h | h | ⟨d, hd, rfl⟩
      · refine br_t h ?_
        unfold wpY_set
        exact ry_reg ha (br_t rfl (br_f (nI_pos (by omega)) (br_t (nI_le (b := 23) (by omega) (by omega)) (br_t h ⟨rfl, K⟩))))
      · refine br_f (rb_n0 (by omega) h) (br_f (rb_nlt h) ?_)
        unfold wpY_set
        exact ry_reg ha (br_t rfl (br_f (nI_pos (by omega)) (br_t (nI_le (b := 23) (by omega) (by omega)) (br_f (rb_n0 (by omega) h) (br_f (rb_nlt h) ⟨rfl, K⟩)))))
      · have ha8 : a < 8 := by omega
        have ha10 : a < 10 := by omega
        have hi50 : i < 50 := by omega
        refine br_f (nI_pos (by omega)) (br_t (nI_lt hd (by omega)) ⟨rx_in ha8 hi, nm_r (rx_get R ha8 hi) ⟨rx_in ha8 hi, nm_r (e' := upd c (24 * a + i) (nI d)) (by rw [rx_cl ha8 hi]) ?_⟩⟩)
        unfold wpY_set
        refine ry_reg ha (br_t rfl (br_f (nI_pos (by omega)) (br_t (nI_le (b := 23) (by omega) (by omega)) (br_f (nI_pos (by omega)) (br_t (nI_lt hd (by omega)) ⟨ry_in ha10 hi50, nm_r (ry_get Y ha10 hi50) ⟨ry_in ha10 hi50, nm_r (e' := upd b (50 * a + i) (nI d)) (by rw [ry_cl ha10 hi50]) ?_⟩⟩)))))
        rw [e a ha]
        refine ⟨rfl, ?_⟩
        have hdd : ∀ j, j < 24 → (fun j => if j = i then d else rb_d B (N a) j) j < B := by
          intro j _
          show (if j = i then d else rb_d B (N a) j) < B
          split
          · exact hd
          · exact rb_d_lt (by omega) _ _
        have hv := rb_val_lt (by omega) 24 _ hdd
        have hvd := rb_val_d (by omega) 24 _ hdd
        generalize rb_val B 24 (fun j => if j = i then d else rb_d B (N a) j) = w at *
        have R2 := rb_RCd (to := a) (c' := upd c (24 * a + i) (nI d)) R hv (fun j hj => by
          rw [hvd j hj]
          by_cases q : j = i
          · subst q; rw [pk_us]; exact congrArg nI (if_pos rfl).symm
          · rw [pk_un (by omega), (R a ha8).2 j hj]; exact congrArg nI (if_neg q).symm) (fun k hk => pk_un (by omega))
        have Y2 := rb_RYd (to := a) (c' := upd b (50 * a + i) (nI d)) Y (rb_p50 hB hv) (fun j hj => by
          by_cases q : j = i
          · subst q; rw [pk_us, hvd j hi]; exact congrArg nI (if_pos rfl).symm
          · rw [pk_un (by omega), (Y a ha10).2 j hj, e a ha]
            by_cases q2 : j < 24
            · rw [hvd j q2]; exact congrArg nI (if_neg q).symm
            · rw [rb_d_hi (by omega) hv (by omega), rb_d_hi (by omega) (R a ha8).1 (by omega)]) (fun k hk => pk_un (by omega))
        refine rb_mk hB hB2 R2 Y2 (fun q hq => ?_) ho
        unfold rb_up
        split
        · rfl
        · exact e q hq
  · refine hX _ (br_t rfl ?_)
    unfold wpY_set
    exact hY _ _ _ (br_f (by decide) ⟨rfl, K⟩)
theorem i_vc_digit {k : Nat} {u : SX} {v : SY} (I : i_Rel k u v) (hk : k + 4 ≤ 2049) (v1 : Int32) (v2 : Int32) : wpX_digit (fun r => wpY_digit (fun r' => r' = r ∧ i_Rel (k + 4) u v) v v1 v2) u v1 v2 := by
  have K := i_up I
  obtain ⟨B, c, l, g, s, p, t, o, b, N, M, rfl, rfl, hB, hB2, R, Y, e, ho⟩ := I
  unfold wpX_digit
  rcases rb_reg v1 with ⟨a, ha, rfl⟩ | ⟨hX, hY⟩
  · refine rx_reg ha (br_f (by decide) ?_)
    rcases pk_ix v2 (n := 24) (by omega) with h | h | ⟨i, hi, rfl⟩
    · refine br_t h ?_
      unfold wpY_digit
      exact ry_reg ha (br_t rfl (br_t h ⟨rfl, K⟩))
    · refine br_f (rb_n0 (by omega) h) (br_t h ?_)
      unfold wpY_digit
      exact ry_reg ha (br_t rfl (br_f (rb_n0 (by omega) h) (br_f (fun z => absurd (Int32.le_trans h z) (by decide)) ⟨rfl, K⟩)))
    · refine br_f (nI_pos (by omega)) (br_f (nI_ge (b := 24) hi (by omega)) ⟨rx_in (by omega) hi, ?_⟩)
      rw [rx_get R (by omega) hi]
      unfold wpY_digit
      refine ry_reg ha (br_t rfl (br_f (nI_pos (by omega)) (br_t (nI_le (b := 23) (by omega) (by omega)) ⟨ry_in (by omega) (by omega), ?_⟩)))
      rw [ry_get Y (by omega) (by omega), e a ha]
      exact ⟨rfl, K⟩
  · refine hX _ (br_t rfl ?_)
    unfold wpY_digit
    exact hY _ _ _ (br_f (by decide) ⟨rfl, K⟩)
theorem rb_len_u {B v L L' : Nat} (hB : 2 ≤ B) (h1 : v < B ^ L) (h2 : 0 < L → B ^ (L - 1) ≤ v) (h3 : v < B ^ L') (h4 : 0 < L' → B ^ (L' - 1) ≤ v) : L = L' := by
  rcases Nat.lt_trichotomy L L' with q | q | q
  · have := h4 (by omega)
    have := Nat.pow_le_pow_right (n := B) (by omega) (show L ≤ L' - 1 by omega)
    omega
  · exact q
  · have := h2 (by omega)
    have := Nat.pow_le_pow_right (n := B) (by omega) (show L' ≤ L - 1 by omega)
    omega
theorem ry_len {B : Nat} {b : Nat → Int32} {M : Nat → Nat} {post : Int32 → Prop} {a : Nat} (hB : 2 ≤ B) (hB2 : B ≤ 36) (ha : a < 10) (Y : rb_RY B b M) (hv : M a < B ^ 24)
    (H : ∀ L, L ≤ 24 → M a < B ^ L → (0 < L → B ^ (L - 1) ≤ M a) → post (nI L)) : ∃ n, wY_length_14 post (nI a) (nI B) b n 0 0 := by
  have loop : ∀ n i L, i ≤ 24 → 24 - i < n → L ≤ i → (0 < L → rb_d B (M a) (L - 1) ≠ 0) → (∀ j, L ≤ j → j < i → rb_d B (M a) j = 0) → wY_length_14 post (nI a) (nI B) b n (nI L) (nI i) := by
    intro n
    induction n with
    | zero => intro i _ _ h; omega
    | succ n ih =>
      intro i L hi h hL h1 h2
      refine pk_le 24 i (fun h3 => ?_) (fun h3 => ?_)
      · obtain rfl : i = 24 := by omega
        refine H L hL (rb_zd (by omega) 24 hv h2) (fun h4 => Nat.le_of_not_lt fun h5 => h1 h4 (rb_d_hi (by omega) h5 (Nat.le_refl _)))
      · refine ⟨ry_in ha (by omega), ?_⟩
        rw [ry_get Y ha (by omega)]
        have hx := rb_d31 hB hB2 (M a) i
        refine pk_eq (rb_d B (M a) i) 0 (fun z => nm_r (nI_1 i) (ih (i + 1) L (by omega) (by omega) (by omega) h1 (fun j j1 j2 => ?_))) (fun z => nm_r (nI_1 i) (nm_r (nI_1 i) (ih (i + 1) (i + 1) (by omega) (by omega) (by omega) (fun _ => z) (fun j j1 j2 => absurd j2 (by omega)))))
        by_cases q : j = i
        · rw [q]; exact z
        · exact h2 j j1 (by omega)
  exact Exists.intro 25 (loop 25 0 0 (by omega) (by omega) (by omega) (fun z => absurd z (by omega)) (fun j _ j2 => absurd j2 (by omega)))
theorem i_vc_length {k : Nat} {u : SX} {v : SY} (I : i_Rel k u v) (hk : k + 4 ≤ 2049) (v1 : Int32) : wpX_length (fun r => wpY_length (fun r' => r' = r ∧ i_Rel (k + 4) u v) v v1) u v1 := by
  have K := i_up I
  obtain ⟨B, c, l, g, s, p, t, o, b, N, M, rfl, rfl, hB, hB2, R, Y, e, ho⟩ := I
  unfold wpX_length
  rcases rb_reg v1 with ⟨a, ha, rfl⟩ | ⟨hX, hY⟩
  · refine rx_reg ha (br_f (by decide) ?_)
    refine rx_len hB hB2 (by omega) R (fun L hL h1 h2 => ?_)
    unfold wpY_length
    refine ry_reg ha (br_t rfl ?_)
    refine ry_len hB hB2 (by omega) Y (by rw [e a ha]; exact (R a (by omega)).1) (fun L' hL' h3 h4 => ?_)
    rw [e a ha] at h3 h4
    rw [rb_len_u hB h1 h2 h3 h4]
    exact ⟨rfl, K⟩
  · refine hX _ (br_t rfl ?_)
    unfold wpY_length
    exact hY _ _ _ (br_f (by decide) ⟨rfl, K⟩)
end
section
/-! compare, copy, add, subtract, feed, and division by small numbers -/
theorem i_vc_compare {k : Nat} {u : SX} {v : SY} (I : i_Rel k u v) (hk : k + 4 ≤ 2049) (v1 : Int32) (v2 : Int32) : wpX_compare (fun r => wpY_compare (fun r' => r' = r ∧ i_Rel (k + 4) u v) v v1 v2) u v1 v2 := by
  have K := i_up I
  obtain ⟨B, c, l, g, s, p, t, o, b, N, M, rfl, rfl, hB, hB2, R, Y, e, ho⟩ := I
  unfold wpX_compare
  rcases rb_reg v1 with ⟨x, hx, rfl⟩ | ⟨hX, hY⟩
  · rcases rb_reg v2 with ⟨y, hy, rfl⟩ | ⟨hX, hY⟩
    · refine rx_reg hx (br_f (by decide) (rx_reg hy (br_f (by decide) ?_)))
      have yy : ∀ r : Int32, (N x < N y → r = 2) → (N x = N y → r = 0) → (N y < N x → r = 1) → wpY_compare (fun r' => r' = r ∧ i_Rel (k + 4) (nI B, c, l, g, s, p, t, o) (nI B, b)) (nI B, b) (nI x) (nI y) := by
        intro r h1 h2 h3
        unfold wpY_compare
        refine ry_reg hx (br_t rfl (ry_reg hy (br_t rfl ?_)))
        refine ry_order hB hB2 (by omega) (by omega) Y (fun z => ?_) (fun z => ?_) (fun z => ?_)
        · rw [e x hx, e y hy] at z
          exact br_f (by decide) ⟨(h1 z).symm, K⟩
        · rw [e x hx, e y hy] at z
          exact br_t (by decide) ⟨(h2 z).symm, K⟩
        · rw [e x hx, e y hy] at z
          exact br_t (by decide) ⟨(h3 z).symm, K⟩
      refine rx_order hB hB2 (by omega) (by omega) R (fun z d hd => ?_) (fun z => ?_) (fun z d hd => ?_)
      · exact br_f (fun q => by rw [q] at hd; exact absurd hd (by decide)) (br_t (Int32.le_of_lt hd) (yy 2 (fun _ => rfl) (fun q => absurd q (by omega)) (fun q => absurd q (by omega))))
      · exact br_t rfl (yy 0 (fun q => absurd q (by omega)) (fun _ => rfl) (fun q => absurd q (by omega)))
      · exact br_f (fun q => by rw [q] at hd; exact absurd hd (by decide)) (br_f (Int32.not_le.mpr hd) (yy 1 (fun q => absurd q (by omega)) (fun q => absurd q (by omega)) (fun _ => rfl)))
    · refine rx_reg hx (br_f (by decide) (hX _ (br_t rfl ?_)))
      unfold wpY_compare
      exact ry_reg hx (br_t rfl (hY _ _ _ (br_f (by decide) ⟨rfl, K⟩)))
  · refine hX _ (br_t rfl ?_)
    unfold wpY_compare
    exact hY _ _ _ (br_f (by decide) ⟨rfl, K⟩)
theorem i_vc_copy {k : Nat} {u : SX} {v : SY} (I : i_Rel k u v) (hk : k + 4 ≤ 2049) (v1 : Int32) (v2 : Int32) : wpX_copy (fun r u' => wpY_copy (fun r' v' => r' = r ∧ i_Rel (k + 4) u' v') v v1 v2) u v1 v2 := by
  have K := i_up I
  obtain ⟨B, c, l, g, s, p, t, o, b, N, M, rfl, rfl, hB, hB2, R, Y, e, ho⟩ := I
  unfold wpX_copy
  rcases rb_reg v1 with ⟨x, hx, rfl⟩ | ⟨hX, hY⟩
  · rcases rb_reg v2 with ⟨y, hy, rfl⟩ | ⟨hX, hY⟩
    · refine rx_reg hx (br_f (by decide) (rx_reg hy (br_f (by decide) ?_)))
      refine rx_assign (by omega) (by omega) R (fun c' R' => ?_)
      show wpY_copy _ _ _ _
      unfold wpY_copy
      refine ry_reg hx (br_t rfl (ry_reg hy (br_t rfl ?_)))
      refine ry_copy (by omega) (by omega) Y (fun b' Y' => ⟨rfl, rb_mk hB hB2 R' Y' (fun q hq => ?_) ho⟩)
      unfold rb_up
      split
      · exact e y hy
      · exact e q hq
    · refine rx_reg hx (br_f (by decide) (hX _ (br_t rfl ?_)))
      unfold wpY_copy
      exact ry_reg hx (br_t rfl (hY _ _ _ (br_f (by decide) ⟨rfl, K⟩)))
  · refine hX _ (br_t rfl ?_)
    unfold wpY_copy
    exact hY _ _ _ (br_f (by decide) ⟨rfl, K⟩)
theorem i_vc_add {k : Nat} {u : SX} {v : SY} (I : i_Rel k u v) (hk : k + 4 ≤ 2049) (v1 : Int32) (v2 : Int32) : wpX_add (fun r u' => wpY_add (fun r' v' => r' = r ∧ i_Rel (k + 4) u' v') v v1 v2) u v1 v2 := by
  have K := i_up I
  obtain ⟨B, c, l, g, s, p, t, o, b, N, M, rfl, rfl, hB, hB2, R, Y, e, ho⟩ := I
  unfold wpX_add
  rcases rb_reg v1 with ⟨x, hx, rfl⟩ | ⟨hX, hY⟩
  · rcases rb_reg v2 with ⟨y, hy, rfl⟩ | ⟨hX, hY⟩
    · refine rx_reg hx (br_f (by decide) (rx_reg hy (br_f (by decide) ?_)))
      refine rx_assign (to := 4) (by omega) (by omega) R (fun c1 R1 => ?_)
      refine rx_addTo (a := 4) hB hB2 (by omega) (by omega) (by omega) R1 (fun c2 R2 => ?_)
      have e1 : rb_up N 4 (N x) 4 = N x := rb_upS _ _ _
      have e2 : rb_up N 4 (N x) y = N y := rb_upN (by omega)
      rw [e1, e2] at R2
      rw [e1, e2]
      have nx := (R x (by omega)).1
      have ny := (R y (by omega)).1
      have yy : ∀ (r : Int32) (u' : SX), (∀ b' M', rb_RY B b' M' → N x + N y < B ^ 24 → (∀ q, q < 4 → M' q = if q = x then N x + N y else N q) → r = 0 ∧ i_Rel (k + 4) u' (nI B, b')) →
          (∀ b' M', rb_RY B b' M' → ¬ N x + N y < B ^ 24 → (∀ q, q < 4 → M' q = N q) → r = -2 ∧ i_Rel (k + 4) u' (nI B, b')) →
          wpY_add (fun r' v' => r' = r ∧ i_Rel (k + 4) u' v') (nI B, b) (nI x) (nI y) := by
        intro r u' h1 h2
        unfold wpY_add
        refine ry_reg hx (br_t rfl (ry_reg hy (br_t rfl ?_)))
        refine ry_copy (to := 4) (by omega) (by omega) Y (fun b1 Y1 => ?_)
        have f1 : rb_up M 4 (M x) 4 = N x := (rb_upS _ _ _).trans (e x hx)
        have f2 : rb_up M 4 (M x) y = N y := (rb_upN (by omega)).trans (e y hy)
        have hs : N x + N y < B ^ 50 := by
          have h3 : B ^ 24 * 2 ≤ B ^ 25 := by rw [Nat.pow_succ B 24]; exact Nat.mul_le_mul_left _ hB
          have h4 : B ^ 25 ≤ B ^ 50 := Nat.pow_le_pow_right (by omega) (by omega)
          omega
        refine ry_add (r := 4) hB hB2 (by omega) (by omega) (by omega) Y1 (by rw [f1, f2]; exact hs) (fun b2 Y2 => ?_)
        rw [f1, f2] at Y2
        refine ry_long (r := 4) hB hB2 (by omega) Y2 (fun z => br_t rfl ?_) (fun z => br_f (by decide) ?_)
        · rw [rb_upS] at z
          refine ry_copy (fr := 4) (by omega) (by omega) Y2 (fun b3 Y3 => ?_)
          have q := h1 b3 _ Y3 z (fun q hq => ?_)
          · exact ⟨q.1.symm, q.2⟩
          · unfold rb_up
            by_cases c1 : q = x
            · rw [if_pos c1, if_pos rfl, if_pos c1]
            · rw [if_neg c1, if_neg c1, if_neg (by omega), if_neg (by omega)]; exact e q hq
        · rw [rb_upS] at z
          have q := h2 b2 _ Y2 z (fun q hq => ?_)
          · exact ⟨q.1.symm, q.2⟩
          · rw [rb_upN (by omega), rb_upN (by omega)]; exact e q hq
      by_cases hs : N x + N y < B ^ 24
      · rw [Nat.div_eq_of_lt hs]
        rw [Nat.mod_eq_of_lt hs] at R2
        refine br_t rfl (rx_assign (fr := 4) (by omega) (by omega) R2 (fun c3 R3 => yy _ _ (fun b' M' Y' _ hM => ⟨rfl, rb_mk hB hB2 R3 Y' (fun q hq => ?_) ho⟩) (fun b' M' _ z => absurd hs z)))
        rw [hM q hq]
        unfold rb_up
        by_cases c1 : q = x
        · rw [if_pos c1, if_pos c1, if_pos rfl]
        · rw [if_neg c1, if_neg c1, if_neg (by omega), if_neg (by omega)]
      · have hc : 0 < (N x + N y) / B ^ 24 := Nat.div_pos (by omega) (rb_pp (by omega) 24)
        have hc2 : (N x + N y) / B ^ 24 < 2 := Nat.div_lt_of_lt_mul (by omega)
        refine br_f (nI_ne0 hc (by omega)) (yy _ _ (fun b' M' _ z => absurd z hs) (fun b' M' Y' _ hM => ⟨rfl, rb_mk hB hB2 R2 Y' (fun q hq => ?_) ho⟩))
        rw [hM q hq, rb_upN (by omega), rb_upN (by omega)]
    · refine rx_reg hx (br_f (by decide) (hX _ (br_t rfl ?_)))
      unfold wpY_add
      exact ry_reg hx (br_t rfl (hY _ _ _ (br_f (by decide) ⟨rfl, K⟩)))
  · refine hX _ (br_t rfl ?_)
    unfold wpY_add
    exact hY _ _ _ (br_f (by decide) ⟨rfl, K⟩)
section
variable {B : Nat} {c l g s p t o : Nat → Int32} {N : Nat → Nat}
theorem rx_sub {post : Int32 → SX → Prop} {x y : Nat} (hB : 2 ≤ B) (hB2 : B ≤ 36) (hx : x < 8) (hy : y < 8) (R : rb_RC B c N) (hle : N y ≤ N x)
    (H : ∀ c' t', rb_RC B c' (rb_up N x (N x - N y)) → post 0 (nI B, c', l, g, s, p, t', o)) : ∃ n, wX_subtract_33 post (nI x) (nI y) (nI B) n 0 0 c l g s p t o := by
  have hDlt : N x - N y < B ^ 24 := Nat.lt_of_le_of_lt (Nat.sub_le _ _) (R x hx).1
  generalize hD : N x - N y = D at *
  have copy : ∀ (t' : Nat → Int32), (∀ j, j < 24 → t' j = nI (rb_d B D j)) → ∀ n j, j ≤ 24 → 24 - j < n → wX_subtract_113 post (nI x) (nI B) n (nI j) (rb_fil c (24 * x) (24 * x + j) (fun k => nI (rb_d B D (k - 24 * x)))) l g s p t' o := by
    intro t' ht n
    induction n with
    | zero => intro j _ h; omega
    | succ n ih =>
      intro j hj h
      refine pk_le 24 j (fun h1 => ?_) (fun h1 => ?_)
      · obtain rfl : j = 24 := by omega
        exact H _ t' (rb_RCf R hDlt (fun i hi => by rw [show 24 * x + i - 24 * x = i by omega]))
      · refine ⟨vp_in_nI (by omega) (by omega), rx_in hx h1, nm_r (e' := rb_fil c (24 * x) (24 * x + (j + 1)) (fun k => nI (rb_d B D (k - 24 * x)))) ?_ (nm_r (nI_1 j) (ih (j + 1) (by omega) (by omega)))⟩
        rw [rx_cl hx h1, nI_clamp (by omega), ht j h1]
        exact rb_filU (by rw [show 24 * x + j - 24 * x = j by omega])
  have loop : ∀ n j w (t' : Nat → Int32), j ≤ 24 → 24 - j < n → w ≤ 1 → N x / B ^ j = 1 * (N y / B ^ j) + D / B ^ j + w → (∀ i, i < j → t' i = nI (rb_d B D i)) →
      wX_subtract_33 post (nI x) (nI y) (nI B) n (nI w) (nI j) c l g s p t' o := by
    intro n
    induction n with
    | zero => intro j _ _ _ h; omega
    | succ n ih =>
      intro j y' t' hj h hy' he ht
      refine pk_le 24 j (fun h1 => ?_) (fun h1 => ?_)
      · obtain rfl : j = 24 := by omega
        have q := copy t' ht 25 0 (by omega) (by omega)
        rw [Nat.add_zero, rb_fil0] at q
        exact Exists.intro 25 q
      · obtain ⟨t1, t2⟩ := rb_ts (by omega) he
        have hxd := rb_d_lt (B := B) (by omega) (N y) j
        have hz := rb_d_lt (B := B) (by omega) D j
        generalize hw : 1 * rb_d B (N y) j + rb_d B D j + y' = w at *
        have tk := rb_tk (w := w) (B := B) (k := rb_d B (N y) j) (D := rb_d B D j) (y := y') (by omega) rfl
        have cj : (nI j).toNatClampNeg = j := nI_clamp (by omega)
        have inj : vp_in (nI j) 26 := vp_in_nI (by omega) (by omega)
        have fin : ∀ t2', t2' = upd t' j (nI (rb_d B D j)) → ∀ z : Int32, z = nI (w / B) → wX_subtract_33 post (nI x) (nI y) (nI B) n z (nI (j + 1)) c l g s p t2' o := by
          intro t2' e1 z e2
          rw [e2]
          have : w / B ≤ 1 := by
            have : w / B < 2 := Nat.div_lt_of_lt_mul (by omega)
            omega
          refine ih (j + 1) (w / B) t2' (by omega) (by omega) this t2 (fun i hi => ?_)
          rw [e1]
          by_cases q : i = j
          · subst q; rw [pk_us]
          · rw [pk_un q]; exact ht i (by omega)
        refine ⟨rx_in hx h1, rx_in hy h1, nm_r (e' := nI (rb_d B D j) - nI (w / B * B)) (by rw [rx_get R hx h1, rx_get R hy h1, t1, tk]) ?_⟩
        by_cases h2 : w < B
        · have e0 := Nat.div_eq_of_lt h2
          rw [e0, Nat.zero_mul, nI_0, Int32.sub_zero]
          have hp : (0 : Int32) ≤ nI (rb_d B D j) := nI_pos' (by omega)
          exact br_t hp (br_t hp ⟨inj, fun t2' e1 => nm_r (nI_1 j) (fin t2' (by rw [e1, cj]) 0 (by rw [e0]; rfl))⟩)
        · have e2 : w / B = 1 := by rw [Nat.div_eq_sub_div (by omega) (by omega), Nat.div_eq_of_lt (by omega)]
          rw [e2, Nat.one_mul]
          have hn : ¬ (0 : Int32) ≤ nI (rb_d B D j) - nI B := Int32.not_le.mpr (pk_sneg (by omega) hz)
          exact br_f hn (br_f hn ⟨inj, fun t2' e1 => nm_r (nI_1 j) (fin t2' (by rw [e1, cj, Int32.sub_add_cancel]) 1 (by rw [e2]; rfl))⟩)
  exact Exists.intro 25 (loop 25 0 0 t (by omega) (by omega) (by omega) (by rw [rb_q0, rb_q0, rb_q0]; omega) (fun i hi => absurd hi (by omega)))
end
theorem i_vc_subtract {k : Nat} {u : SX} {v : SY} (I : i_Rel k u v) (hk : k + 4 ≤ 2049) (v1 : Int32) (v2 : Int32) : wpX_subtract (fun r u' => wpY_subtract (fun r' v' => r' = r ∧ i_Rel (k + 4) u' v') v v1 v2) u v1 v2 := by
  have K := i_up I
  obtain ⟨B, c, l, g, s, p, t, o, b, N, M, rfl, rfl, hB, hB2, R, Y, e, ho⟩ := I
  unfold wpX_subtract
  rcases rb_reg v1 with ⟨x, hx, rfl⟩ | ⟨hX, hY⟩
  · rcases rb_reg v2 with ⟨y, hy, rfl⟩ | ⟨hX, hY⟩
    · refine rx_reg hx (br_f (by decide) (rx_reg hy (br_f (by decide) ?_)))
      have no : N x < N y → wpY_subtract (fun r' v' => r' = -2 ∧ i_Rel (k + 4) (nI B, c, l, g, s, p, t, o) v') (nI B, b) (nI x) (nI y) := by
        intro hlt
        unfold wpY_subtract
        refine ry_reg hx (br_t rfl (ry_reg hy (br_t rfl ?_)))
        refine ry_order hB hB2 (by omega) (by omega) Y (fun _ => br_f (by decide) ⟨rfl, K⟩) (fun z => ?_) (fun z => ?_)
        · rw [e x hx, e y hy] at z; omega
        · rw [e x hx, e y hy] at z; omega
      have yes : N y ≤ N x → ∃ n, wX_subtract_33 (fun r u' => wpY_subtract (fun r' v' => r' = r ∧ i_Rel (k + 4) u' v') (nI B, b) (nI x) (nI y)) (nI x) (nI y) (nI B) n 0 0 c l g s p t o := by
        intro hle
        refine rx_sub hB hB2 (by omega) (by omega) R hle (fun c' t' R' => ?_)
        have tail : wpY_copyRow (fun u => match u with | (f_radix_14, a_big_15) => (wpY_takeRow (fun u => match u with | (f_radix_17, a_big_18) => ((fun (r' : Int32) v' => r' = 0 ∧ i_Rel (k + 4) (nI B, c', l, g, s, p, t', o) v') 0 (f_radix_17, a_big_18))) (f_radix_14, a_big_15) (nI x) 4)) (nI B, b) (nI y) 4 := by
          refine ry_copy (to := 4) (by omega) (by omega) Y (fun b1 Y1 => ?_)
          have f1 : rb_up M 4 (M y) 4 = N y := (rb_upS _ _ _).trans (e y hy)
          have f2 : rb_up M 4 (M y) x = N x := (rb_upN (by omega)).trans (e x hx)
          refine ry_take (q := 4) hB hB2 (by omega) (by omega) (by omega) Y1 (by rw [f1, f2]; exact hle) (fun b2 Y2 => ?_)
          rw [f1, f2] at Y2
          refine ⟨rfl, rb_mk hB hB2 R' Y2 (fun q hq => ?_) ho⟩
          unfold rb_up
          by_cases c1 : q = x
          · rw [if_pos c1, if_pos c1]
          · rw [if_neg c1, if_neg c1, if_neg (by omega)]; exact e q hq
        unfold wpY_subtract
        refine ry_reg hx (br_t rfl (ry_reg hy (br_t rfl ?_)))
        refine ry_order hB hB2 (by omega) (by omega) Y (fun z => ?_) (fun _ => br_t (by decide) tail) (fun _ => br_t (by decide) tail)
        rw [e x hx, e y hy] at z; omega
      refine rx_order hB hB2 (by omega) (by omega) R (fun z d hd => br_f (Int32.not_le.mpr hd) (no z)) (fun z => br_t (by decide) (yes (by omega))) (fun z d hd => br_t (Int32.le_of_lt hd) (yes (by omega)))
    · refine rx_reg hx (br_f (by decide) (hX _ (br_t rfl ?_)))
      unfold wpY_subtract
      exact ry_reg hx (br_t rfl (hY _ _ _ (br_f (by decide) ⟨rfl, K⟩)))
  · refine hX _ (br_t rfl ?_)
    unfold wpY_subtract
    exact hY _ _ _ (br_f (by decide) ⟨rfl, K⟩)
end
section
/-! feed, shift, remainder, digits and length in another radix -/
section
variable {B : Nat} {c l g s p t o : Nat → Int32} {N : Nat → Nat}
theorem rx_feed_l {post : Int32 → SX → Prop} {r : Nat} {x z : Int32} (hr : r < 8) (H : post z (nI B, upd (rb_fil c (24 * r + 1) (24 * r + 24) (fun k => c (k - 1))) (24 * r) x, l, g, s, p, t, o)) :
    ∀ n j, j < 24 → j < n → wX_feed_43 post (nI r) x z (nI B) n (nI j) (rb_fil c (24 * r + j + 1) (24 * r + 24) (fun k => c (k - 1))) l g s p t o := by
  intro n
  induction n with
  | zero => intro j _ h; omega
  | succ n ih =>
    intro j hj h
    cases j with
    | zero => exact br_t (show nI 0 ≤ 0 by decide) ⟨rx_in0 hr, nm_r (by rw [rx_cl0 hr]) H⟩
    | succ j =>
      refine br_f (nI_nle (by omega) (by omega)) ⟨rx_in1 hr (by omega), rx_in hr hj, nm_r (e' := rb_fil c (24 * r + j + 1) (24 * r + 24) (fun k => c (k - 1))) ?_ (nm_r (pk_m1 j) (ih j (by omega) (by omega)))⟩
      rw [rx_cl hr hj, rx_cl1 hr (by omega)]
      exact rb_filD (lo := 24 * r + j + 1) (by omega) ((rb_filO (by omega)).trans (congrArg c (by omega)))
theorem rx_feed {post : Int32 → SX → Prop} {r d : Nat} {z : Int32} (hB : 2 ≤ B) (hr : r < 8) (hd : d < B) (R : rb_RC B c N)
    (H : ∀ c', rb_RC B c' (rb_up N r ((N r * B + d) % B ^ 24)) → post z (nI B, c', l, g, s, p, t, o)) : ∃ n, wX_feed_43 post (nI r) (nI d) z (nI B) n 23 c l g s p t o := by
  have h := rx_feed_l (B := B) (c := c) (l := l) (g := g) (s := s) (p := p) (t := t) (o := o) (x := nI d) hr (H _ (rb_RCd R (Nat.mod_lt _ (rb_pp (by omega) 24)) (fun i hi => ?_) (fun k hk => ?_))) 24 23 (by omega) (by omega)
  · rw [show 24 * r + 23 + 1 = 24 * r + 24 from rfl, rb_fil0] at h
    exact Exists.intro 24 h
  · have e : N r * B + d = d + B * N r := by rw [Nat.mul_comm, Nat.add_comm]
    rw [rb_d_mod _ hi, e]
    cases i with
    | zero => rw [show 24 * r + 0 = 24 * r from rfl, pk_us, rb_d_Z hd]
    | succ i =>
      rw [pk_un (by omega), rb_filI (by omega) (by omega), rb_d_S (by omega) hd]
      exact (congrArg c (by omega)).trans ((R r hr).2 i (by omega))
  · rw [pk_un (by omega), rb_filO (by omega)]
end
theorem i_vc_feed {k : Nat} {u : SX} {v : SY} (I : i_Rel k u v) (hk : k + 4 ≤ 2049) (v1 : Int32) (v2 : Int32) : wpX_feed (fun r u' => wpY_feed (fun r' v' => r' = r ∧ i_Rel (k + 4) u' v') v v1 v2) u v1 v2 := by
  have K := i_up I
  obtain ⟨B, c, l, g, s, p, t, o, b, N, M, rfl, rfl, hB, hB2, R, Y, e, ho⟩ := I
  unfold wpX_feed
  rcases rb_reg v1 with ⟨a, ha, rfl⟩ | ⟨hX, hY⟩
  · refine rx_reg ha (br_f (by decide) ?_)
    rcases pk_ix v2 (n := B) (by omega) with h | h | ⟨d, hd, rfl⟩
    · refine br_t h ?_
      unfold wpY_feed
      exact ry_reg ha (br_t rfl (br_t h ⟨rfl, K⟩))
    · refine br_f (rb_n0 (by omega) h) (br_f (rb_nlt h) ?_)
      unfold wpY_feed
      exact ry_reg ha (br_t rfl (br_f (rb_n0 (by omega) h) (br_f (rb_nlt h) ⟨rfl, K⟩)))
    · have ha8 : a < 8 := by omega
      have ha10 : a < 10 := by omega
      have e23 : (24 : Int32) * nI a + 24 - 1 = nI (24 * a + 23) := rx_ix1 a 23
      have hin : vp_in ((24 : Int32) * nI a + 24 - 1) 192 := by rw [e23]; exact vp_in_nI (by omega) (by omega)
      have hcl : c ((24 : Int32) * nI a + 24 - 1).toNatClampNeg = nI (rb_d B (N a) 23) := by rw [e23, nI_clamp (by omega)]; exact (R a ha8).2 23 (by omega)
      refine br_f (nI_pos (by omega)) (br_t (nI_lt hd (by omega)) ⟨hin, nm_r hcl ?_⟩)
      refine rx_feed hB ha8 hd R (fun c' R' => ?_)
      have hna := (R a ha8).1
      have h25 : N a * B + d < B ^ 25 := by
        have h1 : (N a + 1) * B ≤ B ^ 24 * B := Nat.mul_le_mul_right B hna
        rw [Nat.add_mul, Nat.one_mul] at h1
        rw [Nat.pow_succ B 24]
        omega
      have h50 : N a * B + d < B ^ 50 := Nat.lt_of_lt_of_le h25 (Nat.pow_le_pow_right (by omega) (by omega))
      unfold wpY_feed
      have yin : vp_in ((50 : Int32) * nI a + 23) 500 := ry_in (j := 23) ha10 (by omega)
      have ycl : b ((50 : Int32) * nI a + 23).toNatClampNeg = nI (rb_d B (N a) 23) := by rw [← e a ha]; exact ry_get (j := 23) Y ha10 (by omega)
      refine ry_reg ha (br_t rfl (br_f (nI_pos (by omega)) (br_t (nI_lt hd (by omega)) ⟨yin, nm_r ycl ?_⟩)))
      refine ry_feed hB ha10 hd Y (by rw [e a ha]; exact h50) (fun b1 Y1 => ?_)
      rw [e a ha] at Y1
      have yin2 : vp_in ((50 : Int32) * nI a + 24) 500 := ry_in (j := 24) ha10 (by omega)
      have ycl2 : ((50 : Int32) * nI a + 24).toNatClampNeg = 50 * a + 24 := ry_cl (j := 24) ha10 (by omega)
      refine ⟨yin2, nm_r (e' := upd b1 (50 * a + 24) 0) (by rw [ycl2]) ⟨rfl, ?_⟩⟩
      have hm : (N a * B + d) % B ^ 24 < B ^ 24 := Nat.mod_lt _ (rb_pp (by omega) 24)
      have Y2 := rb_RYd (to := a) (c' := upd b1 (50 * a + 24) 0) Y1 (rb_p50 hB hm) (fun j hj => by
        by_cases q : j = 24
        · rw [q, pk_us, rb_d_hi (by omega) hm (by omega)]; rfl
        · rw [pk_un (by omega), (Y1 a ha10).2 j hj, rb_upS]
          by_cases q2 : j < 24
          · rw [rb_d_mod _ q2]
          · rw [rb_d_hi (by omega) hm (by omega), rb_d_hi (by omega) h25 (by omega)]) (fun k hk => pk_un (by omega))
      refine rb_mk hB hB2 R' Y2 (fun q hq => ?_) ho
      unfold rb_up
      by_cases c1 : q = a
      · rw [if_pos c1, if_pos c1]
      · rw [if_neg c1, if_neg c1, if_neg c1]; exact e q hq
  · refine hX _ (br_t rfl ?_)
    unfold wpY_feed
    exact hY _ _ _ (br_f (by decide) ⟨rfl, K⟩)
theorem rx_rem {B : Nat} {c l g s p t o : Nat → Int32} {N : Nat → Nat} {post : Int32 → Prop} {a m : Nat} (hB : 2 ≤ B) (hB2 : B ≤ 36) (hm : 0 < m) (hm2 : m ≤ 1000000) (ha : a < 8) (R : rb_RC B c N) (H : post (nI (N a % m))) :
    ∃ n, wX_remainder_29 post (nI a) (nI m) (nI B) c l g s p t o n 0 23 := by
  have loop : ∀ n k, k ≤ 24 → k < n → wX_remainder_29 post (nI a) (nI m) (nI B) c l g s p t o n (nI (N a / B ^ k % m)) (nI k + (-1)) := by
    intro n
    induction n with
    | zero => intro k _ h; omega
    | succ n ih =>
      intro k hk h
      cases k with
      | zero =>
        rw [rb_q0]
        exact br_t rb_m1neg H
      | succ j =>
        have hj : j < 24 := by omega
        rw [pk_m1]
        obtain ⟨d1, d2, d3⟩ := rb_dv (B := B) (v := N a) (m := m) (i := j) (by omega) hm rfl
        have hlt : m * B ≤ 1000000 * 36 := Nat.mul_le_mul hm2 hB2
        refine br_f (nI_pos (by omega)) ⟨rx_in ha hj, nI_ne0 hm (by omega), nm_r (e' := nI (N a / B ^ j % m)) ?_ (nm_e (ih j (by omega) (by omega)))⟩
        rw [rx_get R ha hj, pk_mul, nI_add, pk_rem (by omega) hm (by omega), d2]
  have h := loop 25 24 (by omega) (by omega)
  rw [rb_hi0 (by omega) (R a ha).1 (Nat.le_refl _), Nat.zero_mod] at h
  exact Exists.intro 25 h
theorem i_vc_remainder {k : Nat} {u : SX} {v : SY} (I : i_Rel k u v) (hk : k + 4 ≤ 2049) (v1 : Int32) (v2 : Int32) : wpX_remainder (fun r => wpY_remainder (fun r' v' => r' = r ∧ i_Rel (k + 4) u v') v v1 v2) u v1 v2 := by
  have K := i_up I
  obtain ⟨B, c, l, g, s, p, t, o, b, N, M, rfl, rfl, hB, hB2, R, Y, e, ho⟩ := I
  unfold wpX_remainder
  rcases rb_reg v1 with ⟨a, ha, rfl⟩ | ⟨hX, hY⟩
  · refine rx_reg ha (br_f (by decide) ?_)
    by_cases h1 : v2 < 1
    · refine br_t h1 ?_
      unfold wpY_remainder
      exact ry_reg ha (br_t rfl (br_t h1 ⟨rfl, K⟩))
    · by_cases h2 : v2 ≤ 1000000
      · obtain ⟨m, hm, rfl⟩ := nI_of2 (x := v2) (M := 1000000) (n := 1000000) (by decide) (fun z => h1 (Int32.lt_trans z (by decide))) h2
        have hm0 : 0 < m := by
          refine Nat.pos_of_ne_zero fun z => h1 ?_
          rw [z]; decide
        refine br_f h1 (br_t h2 (rx_rem hB hB2 hm0 hm (by omega) R ?_))
        unfold wpY_remainder
        refine ry_reg ha (br_t rfl (br_f h1 (br_t h2 ?_)))
        refine ry_copy (to := 5) (by omega) (by omega) Y (fun b1 Y1 => ?_)
        have f1 : rb_up M 5 (M a) 5 = N a := (rb_upS _ _ _).trans (e a ha)
        refine ry_cut hB hB2 hm0 hm Y1 (by rw [f1]; exact (R a (by omega)).1) (fun b2 Y2 => ?_)
        rw [f1] at Y2 ⊢
        refine ⟨rfl, rb_mk hB hB2 R Y2 (fun q hq => ?_) ho⟩
        rw [rb_upN (by omega), rb_upN (by omega)]
        exact e q hq
      · refine br_f h1 (br_f h2 ?_)
        unfold wpY_remainder
        exact ry_reg ha (br_t rfl (br_f h1 (br_f h2 ⟨rfl, K⟩)))
  · refine hX _ (br_t rfl ?_)
    unfold wpY_remainder
    exact hY _ _ _ (br_f (by decide) ⟨rfl, K⟩)
theorem rx_digIn {B : Nat} {l g s p t o : Nat → Int32} {N : Nat → Nat} {post : Int32 → SX → Prop} {m i v : Nat} (hB : 2 ≤ B) (hB2 : B ≤ 36) (hm : 0 < m) (hm2 : m ≤ 36) (hi : i ≤ 127)
    (H : ∀ c' N', rb_RC B c' N' → (∀ q, q < 4 → N' q = N q) → post (nI (rb_d m v i)) (nI B, c', l, g, s, p, t, o)) :
    ∀ n k (x : Int32) (c : Nat → Int32) (N' : Nat → Nat), k ≤ i + 1 → i + 1 - k < n → rb_RC B c N' → N' 4 = v / m ^ k → (∀ q, q < 4 → N' q = N q) → (k = i + 1 → x = nI (rb_d m v i)) →
      wX_digitIn_48 post (nI m) (nI i) n x (nI k) (nI B) c l g s p t o := by
  intro n
  induction n with
  | zero => intro k x c N' _ h; omega
  | succ n ih =>
    intro k x c N' hk h R h4 hN hx
    refine pk_lt i k (fun h1 => ?_) (fun h1 => ?_)
    · rw [hx (by omega)]
      exact H c N' R hN
    · refine rx_divS (a := 4) hB hB2 hm (by omega) (by omega) R (fun c' R' => nm_r (nI_1 k) (ih (k + 1) _ c' _ (by omega) (by omega) R' ?_ (fun q hq => ?_) (fun hk2 => ?_)))
      · rw [rb_upS, h4, rb_q]
      · rw [rb_upN (by omega)]; exact hN q hq
      · rw [h4, show k = i by omega]; rfl
theorem ry_digIn {B : Nat} {N : Nat → Nat} {post : Int32 → SY → Prop} {m i v : Nat} (hB : 2 ≤ B) (hB2 : B ≤ 36) (hm : 0 < m) (hm2 : m ≤ 36) (hi : i ≤ 127) (hv : v < B ^ 24)
    (H : ∀ b' M', rb_RY B b' M' → (∀ q, q < 4 → M' q = N q) → post (nI (rb_d m v i)) (nI B, b')) :
    ∀ n k (x : Int32) (b : Nat → Int32) (M : Nat → Nat), k ≤ i + 1 → i + 1 - k < n → rb_RY B b M → M 5 = v / m ^ k → (∀ q, q < 4 → M q = N q) → (k = i + 1 → x = nI (rb_d m v i)) →
      wY_digitIn_49 post (nI m) (nI i) n x (nI k) (nI B) b := by
  intro n
  induction n with
  | zero => intro k x b M _ h; omega
  | succ n ih =>
    intro k x b M hk h R h5 hN hx
    refine pk_lt i k (fun h1 => ?_) (fun h1 => ?_)
    · rw [hx (by omega)]
      exact H b M R hN
    · refine ry_cut hB hB2 hm (by omega) R (by rw [h5]; exact Nat.lt_of_le_of_lt (Nat.div_le_self _ _) hv) (fun b' R' => nm_r (nI_1 k) (ih (k + 1) _ b' _ (by omega) (by omega) R' ?_ (fun q hq => ?_) (fun hk2 => ?_)))
      · rw [rb_upS, h5, rb_q]
      · rw [rb_upN (by omega)]; exact hN q hq
      · rw [h5, show k = i by omega]; rfl
theorem i_vc_digitIn {k : Nat} {u : SX} {v : SY} (I : i_Rel k u v) (hk : k + 4 ≤ 2049) (v1 : Int32) (v2 : Int32) (v3 : Int32) : wpX_digitIn (fun r u' => wpY_digitIn (fun r' v' => r' = r ∧ i_Rel (k + 4) u' v') v v1 v2 v3) u v1 v2 v3 := by
  have K := i_up I
  obtain ⟨B, c, l, g, s, p, t, o, b, N, M, rfl, rfl, hB, hB2, R, Y, e, ho⟩ := I
  unfold wpX_digitIn
  rcases rb_reg v1 with ⟨a, ha, rfl⟩ | ⟨hX, hY⟩
  · refine rx_reg ha (br_f (by decide) ?_)
    by_cases h1 : v2 < 2
    · refine br_t h1 ?_
      unfold wpY_digitIn
      exact ry_reg ha (br_t rfl (br_t h1 ⟨rfl, K⟩))
    · by_cases h2 : v2 ≤ 36
      · obtain ⟨m, hm, rfl⟩ := nI_of2 (x := v2) (M := 36) (n := 36) (by decide) (fun z => h1 (Int32.lt_trans z (by decide))) h2
        have hm0 : 0 < m := by
          refine Nat.pos_of_ne_zero fun z => h1 ?_
          rw [z]; decide
        refine br_f h1 (br_t h2 ?_)
        by_cases h3 : v3 < 0
        · refine br_t h3 ?_
          unfold wpY_digitIn
          exact ry_reg ha (br_t rfl (br_f h1 (br_t h2 (br_t h3 ⟨rfl, K⟩))))
        · by_cases h4 : v3 ≤ 127
          · obtain ⟨i, hi, rfl⟩ := nI_of2 (x := v3) (M := 127) (n := 127) (by decide) h3 h4
            have hna := (R a (by omega)).1
            refine br_f h3 (br_t h4 (rx_assign (to := 4) (by omega) (by omega) R (fun c1 R1 => Exists.intro (i + 2) ?_)))
            refine rx_digIn (N := N) (v := N a) hB hB2 hm0 hm hi (fun c2 N2 R2 hN2 => ?_) (i + 2) 0 0 c1 _ (by omega) (by omega) R1 (by rw [rb_upS, rb_q0]) (fun q hq => rb_upN (by omega)) (fun z => absurd z (by omega))
            unfold wpY_digitIn
            refine ry_reg ha (br_t rfl (br_f h1 (br_t h2 (br_f h3 (br_t h4 (ry_copy (to := 5) (by omega) (by omega) Y (fun b1 Y1 => Exists.intro (i + 2) ?_)))))))
            refine ry_digIn (N := N) (v := N a) hB hB2 hm0 hm hi hna (fun b2 M2 Y2 hM2 => ?_) (i + 2) 0 0 b1 _ (by omega) (by omega) Y1 (by rw [rb_upS, rb_q0, e a ha]) (fun q hq => (rb_upN (by omega)).trans (e q hq)) (fun z => absurd z (by omega))
            exact ⟨rfl, rb_mk hB hB2 R2 Y2 (fun q hq => (hM2 q hq).trans (hN2 q hq).symm) ho⟩
          · refine br_f h3 (br_f h4 ?_)
            unfold wpY_digitIn
            exact ry_reg ha (br_t rfl (br_f h1 (br_t h2 (br_f h3 (br_f h4 ⟨rfl, K⟩)))))
      · refine br_f h1 (br_f h2 ?_)
        unfold wpY_digitIn
        exact ry_reg ha (br_t rfl (br_f h1 (br_f h2 ⟨rfl, K⟩)))
  · refine hX _ (br_t rfl ?_)
    unfold wpY_digitIn
    exact hY _ _ _ (br_f (by decide) ⟨rfl, K⟩)
theorem rx_lenIn {B : Nat} {l g s p t o : Nat → Int32} {N : Nat → Nat} {post : Int32 → SX → Prop} {m v : Nat} (hB : 2 ≤ B) (hB2 : B ≤ 36) (hm : 0 < m) (hm2 : m ≤ 36)
    (H : ∀ c' N', rb_RC B c' N' → (∀ q, q < 4 → N' q = N q) → post (nI (fb_cnt v m 128)) (nI B, c', l, g, s, p, t, o)) :
    ∀ n k (c : Nat → Int32) (N' : Nat → Nat), k ≤ 128 → 128 - k < n → rb_RC B c N' → N' 4 = v / m ^ k → (∀ q, q < 4 → N' q = N q) → fb_cnt v m k = k →
      wX_lengthIn_34 post (nI m) n (nI k) (nI k) (nI B) c l g s p t o := by
  intro n
  induction n with
  | zero => intro k c N' _ h; omega
  | succ n ih =>
    intro k c N' hk h R h4 hN hc
    refine pk_le 128 k (fun h1 => ?_) (fun h1 => ?_)
    · obtain rfl : k = 128 := by omega
      have q := H c N' R hN
      rw [hc] at q
      exact q
    · refine rx_len (a := 4) hB hB2 (by omega) R (fun L hL h2 h3 => ?_)
      refine pk_le L 0 (fun h5 => ?_) (fun h5 => ?_)
      · obtain rfl : L = 0 := by omega
        rw [h4, Nat.pow_zero] at h2
        have q := H c N' R hN
        have st := fb_cnt_st hm (show v / m ^ k = 0 by omega) (128 - k)
        rw [show k + (128 - k) = 128 by omega, hc] at st
        rw [st] at q
        exact q
      · have hne : ¬ v / m ^ k = 0 := by
          have h6 := h3 h5
          rw [h4] at h6
          have := rb_pp (B := B) (by omega) (L - 1)
          omega
        refine rx_divS (a := 4) hB hB2 hm (by omega) (by omega) R (fun c' R' => nm_r (nI_1 k) (nm_r (nI_1 k) (ih (k + 1) c' _ (by omega) (by omega) R' ?_ (fun q hq => ?_) ?_)))
        · rw [rb_upS, h4, rb_q]
        · rw [rb_upN (by omega)]; exact hN q hq
        · show (if v / m ^ k = 0 then fb_cnt v m k else fb_cnt v m k + 1) = k + 1
          rw [if_neg hne, hc]
theorem ry_lenIn {B : Nat} {N : Nat → Nat} {post : Int32 → SY → Prop} {m v : Nat} (hB : 2 ≤ B) (hB2 : B ≤ 36) (hm : 0 < m) (hm2 : m ≤ 36) (hv : v < B ^ 24)
    (H : ∀ b' M', rb_RY B b' M' → (∀ q, q < 4 → M' q = N q) → post (nI (fb_cnt v m 128)) (nI B, b')) :
    ∀ n k (b : Nat → Int32) (M : Nat → Nat), k ≤ 128 → 128 - k < n → rb_RY B b M → M 5 = v / m ^ k → (∀ q, q < 4 → M q = N q) →
      wY_lengthIn_35 post (nI m) n (nI (fb_cnt v m k)) (nI k) (nI B) b := by
  intro n
  induction n with
  | zero => intro k b M _ h; omega
  | succ n ih =>
    intro k b M hk h R h5 hN
    refine pk_le 128 k (fun h1 => ?_) (fun h1 => ?_)
    · obtain rfl : k = 128 := by omega
      exact H b M R hN
    · have hv5 : M 5 < B ^ 24 := by rw [h5]; exact Nat.lt_of_le_of_lt (Nat.div_le_self _ _) hv
      refine ry_zero (r := 5) hB hB2 (by omega) R (fun h2 => ?_) (fun h2 => ?_)
      · rw [h5] at h2
        have hs : fb_cnt v m (k + 1) = fb_cnt v m k + 1 := if_neg h2
        refine br_t rfl (ry_cut hB hB2 hm (by omega) R hv5 (fun b' R' => nm_r (e' := nI (fb_cnt v m (k + 1))) (by rw [hs, nI_1]) (nm_r (nI_1 k) (ih (k + 1) b' _ (by omega) (by omega) R' ?_ (fun q hq => ?_)))))
        · rw [rb_upS, h5, rb_q]
        · rw [rb_upN (by omega)]; exact hN q hq
      · have h2' := h2
        rw [h5] at h2'
        have hs : fb_cnt v m (k + 1) = fb_cnt v m k := if_pos h2'
        have q := ih (k + 1) b M (by omega) (by omega) R (by rw [h2, rb_q, h2', Nat.zero_div]) hN
        rw [hs] at q
        exact br_f (by decide) (nm_r (nI_1 k) q)
theorem i_vc_lengthIn {k : Nat} {u : SX} {v : SY} (I : i_Rel k u v) (hk : k + 4 ≤ 2049) (v1 : Int32) (v2 : Int32) : wpX_lengthIn (fun r u' => wpY_lengthIn (fun r' v' => r' = r ∧ i_Rel (k + 4) u' v') v v1 v2) u v1 v2 := by
  have K := i_up I
  obtain ⟨B, c, l, g, s, p, t, o, b, N, M, rfl, rfl, hB, hB2, R, Y, e, ho⟩ := I
  unfold wpX_lengthIn
  rcases rb_reg v1 with ⟨a, ha, rfl⟩ | ⟨hX, hY⟩
  · refine rx_reg ha (br_f (by decide) ?_)
    by_cases h1 : v2 < 2
    · refine br_t h1 ?_
      unfold wpY_lengthIn
      exact ry_reg ha (br_t rfl (br_t h1 ⟨rfl, K⟩))
    · by_cases h2 : v2 ≤ 36
      · obtain ⟨m, hm, rfl⟩ := nI_of2 (x := v2) (M := 36) (n := 36) (by decide) (fun z => h1 (Int32.lt_trans z (by decide))) h2
        have hm0 : 0 < m := by
          refine Nat.pos_of_ne_zero fun z => h1 ?_
          rw [z]; decide
        have hna := (R a (by omega)).1
        refine br_f h1 (br_t h2 (rx_assign (to := 4) (by omega) (by omega) R (fun c1 R1 => Exists.intro 129 ?_)))
        refine rx_lenIn (N := N) (v := N a) hB hB2 hm0 hm (fun c2 N2 R2 hN2 => ?_) 129 0 c1 _ (by omega) (by omega) R1 (by rw [rb_upS, rb_q0]) (fun q hq => rb_upN (by omega)) rfl
        unfold wpY_lengthIn
        refine ry_reg ha (br_t rfl (br_f h1 (br_t h2 (ry_copy (to := 5) (by omega) (by omega) Y (fun b1 Y1 => Exists.intro 129 ?_)))))
        refine ry_lenIn (N := N) (v := N a) hB hB2 hm0 hm hna (fun b2 M2 Y2 hM2 => ?_) 129 0 b1 _ (by omega) (by omega) Y1 (by rw [rb_upS, rb_q0, e a ha]) (fun q hq => (rb_upN (by omega)).trans (e q hq))
        exact ⟨rfl, rb_mk hB hB2 R2 Y2 (fun q hq => (hM2 q hq).trans (hN2 q hq).symm) ho⟩
      · refine br_f h1 (br_f h2 ?_)
        unfold wpY_lengthIn
        exact ry_reg ha (br_t rfl (br_f h1 (br_f h2 ⟨rfl, K⟩)))
  · refine hX _ (br_t rfl ?_)
    unfold wpY_lengthIn
    exact hY _ _ _ (br_f (by decide) ⟨rfl, K⟩)
end
section
/-! shift -/
theorem rb_sh {x : Int32} (h1 : ¬ x < -24) (h2 : x ≤ 24) {i : Nat} (hi : i < 24) :
    ((i : Int) + x.toInt < 0 ∧ nI i + x < 0) ∨ (24 ≤ (i : Int) + x.toInt ∧ ¬ nI i + x < 0 ∧ 24 ≤ nI i + x) ∨ (∃ m : Nat, m < 24 ∧ (m : Int) = i + x.toInt ∧ nI i + x = nI m) := by
  have a1 : -24 ≤ x.toInt := by
    have := Int32.le_iff_toInt_le.mp (Int32.not_lt.mp h1)
    rw [show (-24 : Int32).toInt = -24 by decide] at this
    exact this
  have a2 : x.toInt ≤ 24 := by
    have := Int32.le_iff_toInt_le.mp h2
    rw [show (24 : Int32).toInt = 24 by decide] at this
    exact this
  have e : (nI i + x).toInt = i + x.toInt := by
    rw [Int32.toInt_add, nI_toInt (by omega)]
    exact Int.bmod_eq_of_le (by omega) (by omega)
  have z0 : (0 : Int32).toInt = 0 := by decide
  have z24 : (24 : Int32).toInt = 24 := by decide
  by_cases c1 : (i : Int) + x.toInt < 0
  · exact Or.inl ⟨c1, by rw [Int32.lt_iff_toInt_lt, e, z0]; exact c1⟩
  · by_cases c2 : 24 ≤ (i : Int) + x.toInt
    · refine Or.inr (Or.inl ⟨c2, ?_, ?_⟩)
      · rw [Int32.lt_iff_toInt_lt, e, z0]; exact c1
      · rw [Int32.le_iff_toInt_le, e, z24]; exact c2
    · refine Or.inr (Or.inr ⟨((i : Int) + x.toInt).toNat, by omega, by omega, ?_⟩)
      apply Int32.toInt_inj.mp
      rw [e, nI_toInt (by omega)]
      omega
def rb_lo (d : Nat → Nat) (s : Int) : Nat → Nat
  | 0 => 0
  | i + 1 => if 0 ≤ (i : Int) + s ∧ (i : Int) + s < 24 then rb_lo d s i else if d i = 0 then rb_lo d s i else rb_lo d s i + 1
theorem rb_lo_in {d : Nat → Nat} {s : Int} {i : Nat} (h : 0 ≤ (i : Int) + s ∧ (i : Int) + s < 24) : rb_lo d s (i + 1) = rb_lo d s i := if_pos h
theorem rb_lo_0 {d : Nat → Nat} {s : Int} {i : Nat} (h : ¬ (0 ≤ (i : Int) + s ∧ (i : Int) + s < 24)) (z : d i = 0) : rb_lo d s (i + 1) = rb_lo d s i := (if_neg h).trans (if_pos z)
theorem rb_lo_1 {d : Nat → Nat} {s : Int} {i : Nat} (h : ¬ (0 ≤ (i : Int) + s ∧ (i : Int) + s < 24)) (z : ¬ d i = 0) : rb_lo d s (i + 1) = rb_lo d s i + 1 := (if_neg h).trans (if_neg z)
def rb_W (d : Nat → Nat) (s : Int) (i q : Nat) : Nat := if 0 ≤ (q : Int) - s ∧ (q : Int) - s < i then d ((q : Int) - s).toNat else 0
theorem rb_W0 (d : Nat → Nat) (s : Int) (q : Nat) : rb_W d s 0 q = 0 := if_neg (by omega)
theorem rb_Wo {d : Nat → Nat} {s : Int} {i q : Nat} (h : (q : Int) ≠ i + s) : rb_W d s (i + 1) q = rb_W d s i q := by
  unfold rb_W
  by_cases c : 0 ≤ (q : Int) - s ∧ (q : Int) - s < i
  · rw [if_pos c, if_pos (by omega)]
  · rw [if_neg c, if_neg (by omega)]
theorem rb_Wi {d : Nat → Nat} {s : Int} {i q : Nat} (h : (q : Int) = i + s) : rb_W d s (i + 1) q = d i := by
  unfold rb_W
  rw [if_pos (by omega)]
  exact congrArg d (by omega)
theorem rb_Wlt {d : Nat → Nat} {B : Nat} (hB : 0 < B) (hd : ∀ i, d i < B) (s : Int) (i q : Nat) : rb_W d s i q < B := by
  unfold rb_W
  split
  · exact hd _
  · exact hB
section
variable {B : Nat} {c l g s p o : Nat → Int32} {N : Nat → Nat}
theorem rx_sh {post : Int32 → SX → Prop} {a : Nat} {x : Int32} (hB : 2 ≤ B) (hB2 : B ≤ 36) (ha : a < 8) (R : rb_RC B c N) (h1 : ¬ x < -24) (h2 : x ≤ 24)
    (H : ∀ c' t', rb_RC B c' (rb_up N a (rb_val B 24 (rb_W (rb_d B (N a)) x.toInt 24))) → post (nI (rb_lo (rb_d B (N a)) x.toInt 24)) (nI B, c', l, g, s, p, t', o)) (t : Nat → Int32) :
    ∃ n, wX_shift_29 post (nI a) x 0 (nI B) n 0 c l g s p t o := by
  have dl : ∀ i, rb_d B (N a) i < B := fun i => rb_d_lt (by omega) _ _
  have wl : ∀ i, i < 24 → rb_W (rb_d B (N a)) x.toInt 24 i < B := fun i _ => rb_Wlt (by omega) dl _ _ _
  have copy : ∀ (t' : Nat → Int32), (∀ j, j < 24 → t' j = nI (rb_W (rb_d B (N a)) x.toInt 24 j)) → ∀ n j, j ≤ 24 → 24 - j < n →
      wX_shift_132 post (nI a) (nI (rb_lo (rb_d B (N a)) x.toInt 24)) (nI B) n (nI j) (rb_fil c (24 * a) (24 * a + j) (fun k => nI (rb_W (rb_d B (N a)) x.toInt 24 (k - 24 * a)))) l g s p t' o := by
    intro t' ht n
    induction n with
    | zero => intro j _ h; omega
    | succ n ih =>
      intro j hj h
      refine pk_le 24 j (fun h1 => ?_) (fun h1 => ?_)
      · obtain rfl : j = 24 := by omega
        refine H _ t' (rb_RCf R (rb_val_lt (by omega) 24 _ wl) (fun i hi => ?_))
        rw [show 24 * a + i - 24 * a = i by omega, rb_val_d (by omega) 24 _ wl i hi]
      · refine ⟨vp_in_nI (by omega) (by omega), rx_in ha h1, nm_r (e' := rb_fil c (24 * a) (24 * a + (j + 1)) (fun k => nI (rb_W (rb_d B (N a)) x.toInt 24 (k - 24 * a)))) ?_ (nm_r (nI_1 j) (ih (j + 1) (by omega) (by omega)))⟩
        rw [rx_cl ha h1, nI_clamp (by omega), ht j h1]
        exact rb_filU (by rw [show 24 * a + j - 24 * a = j by omega])
  have move : ∀ n i (t' : Nat → Int32), i ≤ 24 → 24 - i < n → (∀ j, j < 24 → t' j = nI (rb_W (rb_d B (N a)) x.toInt i j)) →
      wX_shift_53 post (nI a) x (nI B) n (nI (rb_lo (rb_d B (N a)) x.toInt i)) (nI i) c l g s p t' o := by
    intro n
    induction n with
    | zero => intro i _ _ h; omega
    | succ n ih =>
      intro i t' hi h ht
      refine pk_le 24 i (fun h3 => ?_) (fun h3 => nm_e ?_)
      · obtain rfl : i = 24 := by omega
        have q := copy t' ht 25 0 (by omega) (by omega)
        rw [Nat.add_zero, rb_fil0] at q
        exact Exists.intro 25 q
      · have hd := rb_d31 hB hB2 (N a) i
        have off : ¬ (0 ≤ (i : Int) + x.toInt ∧ (i : Int) + x.toInt < 24) →
            wX_shift_100 post (wX_shift_53 post (nI a) x (nI B) n) (nI a) x (nI (rb_lo (rb_d B (N a)) x.toInt i)) (nI i) (nI B) c l g s p t' o := by
          intro ho
          have nxt := ih (i + 1) t' (by omega) (by omega) (fun j hj => by rw [ht j hj, rb_Wo (by omega)])
          refine ⟨rx_in ha h3, ?_⟩
          rw [rx_get R ha h3]
          refine pk_eq (rb_d B (N a) i) 0 (fun z => nm_r (Int32.add_zero _) (nm_r (nI_1 i) ?_)) (fun z => nm_r (nI_1 _) (nm_r (nI_1 i) ?_))
          · rw [rb_lo_0 ho z] at nxt; exact nxt
          · rw [rb_lo_1 ho z] at nxt; exact nxt
        rcases rb_sh h1 h2 h3 with ⟨q1, q2⟩ | ⟨q1, q2, q3⟩ | ⟨m, q1, q2, q3⟩
        · exact br_t q2 (off (by omega))
        · exact br_f q2 (br_t q3 (off (by omega)))
        · have nxt := ih (i + 1) (upd t' m (nI (rb_d B (N a) i))) (by omega) (by omega) (fun j hj => by
            by_cases q : j = m
            · subst q; rw [pk_us, rb_Wi (by omega)]
            · rw [pk_un q, ht j hj, rb_Wo (by omega)])
          rw [rb_lo_in (by omega)] at nxt
          rw [q3]
          exact br_f (nI_pos (by omega)) (br_f (nI_ge (b := 24) q1 (by omega)) ⟨rx_in ha h3, vp_in_nI (by omega) (by omega), nm_r (e' := upd t' m (nI (rb_d B (N a) i))) (by rw [nI_clamp (by omega), rx_get R ha h3]) (nm_r (nI_1 i) nxt)⟩)
  have clr : ∀ n i (t' : Nat → Int32), i ≤ 24 → 24 - i < n → (∀ j, j < i → t' j = 0) → wX_shift_29 post (nI a) x 0 (nI B) n (nI i) c l g s p t' o := by
    intro n
    induction n with
    | zero => intro i _ _ h; omega
    | succ n ih =>
      intro i t' hi h ht
      refine pk_le 24 i (fun h3 => ?_) (fun h3 => ?_)
      · have q := move 25 0 t' (by omega) (by omega) (fun j hj => by rw [ht j (by omega), rb_W0]; rfl)
        exact Exists.intro 25 q
      · refine ⟨vp_in_nI (by omega) (by omega), nm_r (e' := upd t' i 0) (by rw [nI_clamp (by omega)]) (nm_r (nI_1 i) (ih (i + 1) _ (by omega) (by omega) (fun j hj => ?_)))⟩
        by_cases e : j = i
        · subst e; rw [pk_us]
        · rw [pk_un e]; exact ht j (by omega)
  exact Exists.intro 25 (clr 25 0 t (by omega) (by omega) (fun j hj => absurd hj (by omega)))
end
theorem ry_sh {B : Nat} {b : Nat → Int32} {M : Nat → Nat} {post : Int32 → SY → Prop} {a v : Nat} {x : Int32} (hB : 2 ≤ B) (hB2 : B ≤ 36) (ha : a < 4) (Y : rb_RY B b M) (h1 : ¬ x < -24) (h2 : x ≤ 24) (h4 : M 4 = v) (ha0 : M a = 0)
    (H : ∀ b', rb_RY B b' (rb_up M a (rb_val B 24 (rb_W (rb_d B v) x.toInt 24))) → post (nI (rb_lo (rb_d B v) x.toInt 24)) (nI B, b')) :
    ∃ n, wY_shift_42 post (nI a) x (nI B) n 0 0 b := by
  have ha10 : a < 10 := by omega
  have dl : ∀ i, rb_d B v i < B := fun i => rb_d_lt (by omega) _ _
  have wl : ∀ i, i < 24 → rb_W (rb_d B v) x.toInt 24 i < B := fun i _ => rb_Wlt (by omega) dl _ _ _
  have move : ∀ n i (b' : Nat → Int32), i ≤ 24 → 24 - i < n → (∀ j, j < 50 → b' (50 * a + j) = nI (if j < 24 then rb_W (rb_d B v) x.toInt i j else 0)) → (∀ k, (k < 50 * a ∨ 50 * a + 50 ≤ k) → b' k = b k) →
      wY_shift_42 post (nI a) x (nI B) n (nI (rb_lo (rb_d B v) x.toInt i)) (nI i) b' := by
    intro n
    induction n with
    | zero => intro i _ _ h; omega
    | succ n ih =>
      intro i b' hi h ht hb
      refine pk_le 24 i (fun h3 => ?_) (fun h3 => nm_e ?_)
      · obtain rfl : i = 24 := by omega
        have hv := rb_val_lt (by omega) 24 _ wl
        refine H b' (rb_RYd Y (rb_p50 hB hv) (fun j hj => ?_) hb)
        rw [ht j hj]
        by_cases q : j < 24
        · rw [if_pos q, rb_val_d (by omega) 24 _ wl j q]
        · rw [if_neg q, rb_d_hi (by omega) hv (by omega)]
      · have hd := rb_d31 hB hB2 v i
        have hix : (200 : Int32) + nI i = nI (200 + i) := nI_add 200 i
        have hin : vp_in ((200 : Int32) + nI i) 500 := by rw [hix]; exact vp_in_nI (by omega) (by omega)
        have hcl : b' ((200 : Int32) + nI i).toNatClampNeg = nI (rb_d B v i) := by
          rw [hix, nI_clamp (by omega), hb _ (by omega), ← h4]
          exact (Y 4 (by omega)).2 i (by omega)
        have off : ¬ (0 ≤ (i : Int) + x.toInt ∧ (i : Int) + x.toInt < 24) →
            wY_shift_93 post (wY_shift_42 post (nI a) x (nI B) n) (nI a) x (nI (rb_lo (rb_d B v) x.toInt i)) (nI i) (nI B) b' := by
          intro ho
          have nxt := ih (i + 1) b' (by omega) (by omega) (fun j hj => by
            rw [ht j hj]
            by_cases q : j < 24
            · rw [if_pos q, if_pos q, rb_Wo (by omega)]
            · rw [if_neg q, if_neg q]) hb
          refine ⟨hin, ?_⟩
          rw [hcl]
          refine pk_eq (rb_d B v i) 0 (fun z => nm_r (nI_1 i) ?_) (fun z => nm_r (nI_1 _) (nm_r (nI_1 i) ?_))
          · rw [rb_lo_0 ho z] at nxt; exact nxt
          · rw [rb_lo_1 ho z] at nxt; exact nxt
        rcases rb_sh h1 h2 h3 with ⟨q1, q2⟩ | ⟨q1, q2, q3⟩ | ⟨m, q1, q2, q3⟩
        · exact br_t q2 (off (by omega))
        · exact br_f q2 (br_t q3 (off (by omega)))
        · have nxt := ih (i + 1) (upd b' (50 * a + m) (nI (rb_d B v i))) (by omega) (by omega) (fun j hj => by
            by_cases q : j = m
            · subst q; rw [pk_us, if_pos q1, rb_Wi (by omega)]
            · rw [pk_un (by omega), ht j hj]
              by_cases q5 : j < 24
              · rw [if_pos q5, if_pos q5, rb_Wo (by omega)]
              · rw [if_neg q5, if_neg q5]) (fun k hk => by rw [pk_un (by omega)]; exact hb k hk)
          rw [rb_lo_in (by omega)] at nxt
          rw [q3]
          exact br_f (nI_pos (by omega)) (br_f (nI_ge (b := 24) q1 (by omega)) ⟨hin, ry_in ha10 (by omega), nm_r (e' := upd b' (50 * a + m) (nI (rb_d B v i))) (by rw [ry_cl ha10 (by omega), hcl]) (nm_r (nI_1 i) nxt)⟩)
  have q := move 25 0 b (by omega) (by omega) (fun j hj => by
    rw [(Y a ha10).2 j hj, ha0, rb_d0]
    by_cases q5 : j < 24
    · rw [if_pos q5, rb_W0]
    · rw [if_neg q5]) (fun k _ => rfl)
  exact Exists.intro 25 q
theorem i_vc_shift {k : Nat} {u : SX} {v : SY} (I : i_Rel k u v) (hk : k + 4 ≤ 2049) (v1 : Int32) (v2 : Int32) : wpX_shift (fun r u' => wpY_shift (fun r' v' => r' = r ∧ i_Rel (k + 4) u' v') v v1 v2) u v1 v2 := by
  have K := i_up I
  obtain ⟨B, c, l, g, s, p, t, o, b, N, M, rfl, rfl, hB, hB2, R, Y, e, ho⟩ := I
  unfold wpX_shift
  rcases rb_reg v1 with ⟨a, ha, rfl⟩ | ⟨hX, hY⟩
  · refine rx_reg ha (br_f (by decide) ?_)
    by_cases h1 : v2 < -24
    · refine br_t h1 ?_
      unfold wpY_shift
      exact ry_reg ha (br_t rfl (br_t h1 ⟨rfl, K⟩))
    · by_cases h2 : v2 ≤ 24
      · refine br_f h1 (br_t h2 (rx_sh hB hB2 (by omega) R h1 h2 (fun c' t' R' => ?_) t))
        unfold wpY_shift
        refine ry_reg ha (br_t rfl (br_f h1 (br_t h2 (ry_copy (to := 4) (by omega) (by omega) Y (fun b1 Y1 => ?_)))))
        refine ry_set (v := 0) hB (by omega) (by omega) Y1 (fun b2 Y2 => ?_)
        refine ry_sh (v := N a) hB hB2 ha Y2 h1 h2 ?_ (rb_upS _ _ _) (fun b3 Y3 => ⟨rfl, rb_mk hB hB2 R' Y3 (fun q hq => ?_) ho⟩)
        · rw [rb_upN (by omega), rb_upS]; exact e a ha
        · unfold rb_up
          by_cases c1 : q = a
          · rw [if_pos c1, if_pos c1]
          · rw [if_neg c1, if_neg c1, if_neg c1, if_neg (by omega)]; exact e q hq
      · refine br_f h1 (br_f h2 ?_)
        unfold wpY_shift
        exact ry_reg ha (br_t rfl (br_f h1 (br_f h2 ⟨rfl, K⟩)))
  · refine hX _ (br_t rfl ?_)
    unfold wpY_shift
    exact hY _ _ _ (br_f (by decide) ⟨rfl, K⟩)
end
section
/-! multiply, multiplyLow, divide, divisor -/
theorem i_vc_multiply {k : Nat} {u : SX} {v : SY} (I : i_Rel k u v) (hk : k + 4 ≤ 2049) (v1 : Int32) (v2 : Int32) : wpX_multiply (fun r u' => wpY_multiply (fun r' v' => r' = r ∧ i_Rel (k + 4) u' v') v v1 v2) u v1 v2 := by
  have K := i_up I
  obtain ⟨B, c, l, g, s, p, t, o, b, N, M, rfl, rfl, hB, hB2, R, Y, e, ho⟩ := I
  unfold wpX_multiply
  rcases rb_reg v1 with ⟨x, hx, rfl⟩ | ⟨hX, hY⟩
  · rcases rb_reg v2 with ⟨y, hy, rfl⟩ | ⟨hX, hY⟩
    · refine rx_reg hx (br_f (by decide) (rx_reg hy (br_f (by decide) ?_)))
      have nx := (R x (by omega)).1
      have ny := (R y (by omega)).1
      refine rx_mulInto (to := 4) hB hB2 (by omega) (by omega) (by omega) R ho (fun c1 l1 g1 s1 p1 R1 hp => ?_)
      have yy : ∀ (r : Int32) (u' : SX), (∀ b' M', rb_RY B b' M' → N x * N y < B ^ 24 → (∀ q, q < 4 → M' q = if q = x then N x * N y else N q) → r = 0 ∧ i_Rel (k + 4) u' (nI B, b')) →
          (∀ b' M', rb_RY B b' M' → ¬ N x * N y < B ^ 24 → (∀ q, q < 4 → M' q = N q) → r = -2 ∧ i_Rel (k + 4) u' (nI B, b')) →
          wpY_multiply (fun r' v' => r' = r ∧ i_Rel (k + 4) u' v') (nI B, b) (nI x) (nI y) := by
        intro r u' h1 h2
        unfold wpY_multiply
        refine ry_reg hx (br_t rfl (ry_reg hy (br_t rfl ?_)))
        refine ry_mul (t := 4) hB hB2 (by omega) (by omega) (by omega) (by omega) (by omega) Y (by rw [e x hx]; exact nx) (by rw [e y hy]; exact ny) (fun b2 Y2 => ?_)
        rw [e x hx, e y hy] at Y2
        refine ry_long (r := 4) hB hB2 (by omega) Y2 (fun z => br_t rfl ?_) (fun z => br_f (by decide) ?_)
        · rw [rb_upS] at z
          refine ry_copy (fr := 4) (by omega) (by omega) Y2 (fun b3 Y3 => ?_)
          have q := h1 b3 _ Y3 z (fun q hq => ?_)
          · exact ⟨q.1.symm, q.2⟩
          · unfold rb_up
            by_cases c1 : q = x
            · rw [if_pos c1, if_pos rfl, if_pos c1]
            · rw [if_neg c1, if_neg c1, if_neg (by omega)]; exact e q hq
        · rw [rb_upS] at z
          have q := h2 b2 _ Y2 z (fun q hq => ?_)
          · exact ⟨q.1.symm, q.2⟩
          · rw [rb_upN (by omega)]; exact e q hq
      refine rx_over hB hB2 (rb_mul64 hB nx ny) hp (fun hs => ?_) (fun hs => ?_)
      · rw [Nat.mod_eq_of_lt hs] at R1
        refine br_t rfl (rx_assign (fr := 4) (by omega) (by omega) R1 (fun c3 R3 => yy _ _ (fun b' M' Y' _ hM => ⟨rfl, rb_mk hB hB2 R3 Y' (fun q hq => ?_) ho⟩) (fun b' M' _ z => absurd hs z)))
        rw [hM q hq]
        unfold rb_up
        by_cases c1 : q = x
        · rw [if_pos c1, if_pos c1, if_pos rfl]
        · rw [if_neg c1, if_neg c1, if_neg (by omega)]
      · refine br_f (by decide) (yy _ _ (fun b' M' _ z => absurd z hs) (fun b' M' Y' _ hM => ⟨rfl, rb_mk hB hB2 R1 Y' (fun q hq => ?_) ho⟩))
        rw [hM q hq, rb_upN (by omega)]
    · refine rx_reg hx (br_f (by decide) (hX _ (br_t rfl ?_)))
      unfold wpY_multiply
      exact ry_reg hx (br_t rfl (hY _ _ _ (br_f (by decide) ⟨rfl, K⟩)))
  · refine hX _ (br_t rfl ?_)
    unfold wpY_multiply
    exact hY _ _ _ (br_f (by decide) ⟨rfl, K⟩)
theorem ry_low {B : Nat} {b : Nat → Int32} {M : Nat → Nat} {post : Int32 → SY → Prop} {a : Nat} {x : Int32} (hB : 2 ≤ B) (ha : a < 10) (Y : rb_RY B b M)
    (H : ∀ b', rb_RY B b' (rb_up (rb_up M 4 (M 4 % B ^ 24)) a (M 4 % B ^ 24)) → post x (nI B, b')) : ∃ n, wY_multiplyLow_43 post (nI a) x (nI B) n 24 b := by
  have loop : ∀ n j, 24 ≤ j → j ≤ 50 → 50 - j < n → wY_multiplyLow_43 post (nI a) x (nI B) n (nI j) (rb_fil b 224 (200 + j) (fun _ => 0)) := by
    intro n
    induction n with
    | zero => intro j _ _ h; omega
    | succ n ih =>
      intro j h24 hj h
      refine pk_le 50 j (fun h1 => ?_) (fun h1 => ?_)
      · obtain rfl : j = 50 := by omega
        have hm : M 4 % B ^ 24 < B ^ 24 := Nat.mod_lt _ (rb_pp (by omega) 24)
        have Y1 := rb_RYd (to := 4) (c' := rb_fil b 224 250 (fun _ => 0)) Y (rb_p50 hB hm) (fun i hi => by
          by_cases q : i < 24
          · rw [rb_filO (by omega), rb_d_mod _ q]; exact (Y 4 (by omega)).2 i hi
          · rw [rb_filI (by omega) (by omega), rb_d_hi (by omega) hm (by omega)]; rfl) (fun k hk => rb_filO (by omega))
        refine ry_copy (fr := 4) (by omega) ha Y1 (fun b' Y2 => H b' ?_)
        rw [rb_upS] at Y2
        exact Y2
      · have hix : (200 : Int32) + nI j = nI (200 + j) := nI_add 200 j
        refine ⟨by rw [hix]; exact vp_in_nI (by omega) (by omega), nm_r (e' := rb_fil b 224 (200 + (j + 1)) (fun _ => 0)) ?_ (nm_r (nI_1 j) (ih (j + 1) (by omega) (by omega) (by omega)))⟩
        rw [hix, nI_clamp (by omega)]
        obtain ⟨m, rfl⟩ : ∃ m, j = 24 + m := ⟨j - 24, by omega⟩
        have q := rb_filU (c := b) (f := fun _ => 0) (lo := 224) (j := m) (x := 0) rfl
        rw [show 224 + m = 200 + (24 + m) by omega, show 224 + (m + 1) = 200 + (24 + m + 1) by omega] at q
        exact q
  have q := loop 27 24 (by omega) (by omega) (by omega)
  rw [show 200 + 24 = 224 from rfl, rb_fil0] at q
  exact Exists.intro 27 q
theorem i_vc_multiplyLow {k : Nat} {u : SX} {v : SY} (I : i_Rel k u v) (hk : k + 4 ≤ 2049) (v1 : Int32) (v2 : Int32) : wpX_multiplyLow (fun r u' => wpY_multiplyLow (fun r' v' => r' = r ∧ i_Rel (k + 4) u' v') v v1 v2) u v1 v2 := by
  have K := i_up I
  obtain ⟨B, c, l, g, s, p, t, o, b, N, M, rfl, rfl, hB, hB2, R, Y, e, ho⟩ := I
  unfold wpX_multiplyLow
  rcases rb_reg v1 with ⟨x, hx, rfl⟩ | ⟨hX, hY⟩
  · rcases rb_reg v2 with ⟨y, hy, rfl⟩ | ⟨hX, hY⟩
    · refine rx_reg hx (br_f (by decide) (rx_reg hy (br_f (by decide) ?_)))
      have nx := (R x (by omega)).1
      have ny := (R y (by omega)).1
      refine rx_mulInto (to := 4) hB hB2 (by omega) (by omega) (by omega) R ho (fun c1 l1 g1 s1 p1 R1 hp => ?_)
      refine rx_assign (fr := 4) (by omega) (by omega) R1 (fun c2 R2 => ?_)
      rw [rb_upS] at R2
      have yy : ∀ (r : Int32), (N x * N y < B ^ 24 → r = 0) → (¬ N x * N y < B ^ 24 → r = 1) →
          wpY_multiplyLow (fun r' v' => r' = r ∧ i_Rel (k + 4) (nI B, c2, l1, g1, s1, p1, t, o) v') (nI B, b) (nI x) (nI y) := by
        intro r h1 h2
        unfold wpY_multiplyLow
        refine ry_reg hx (br_t rfl (ry_reg hy (br_t rfl ?_)))
        refine ry_mul (t := 4) hB hB2 (by omega) (by omega) (by omega) (by omega) (by omega) Y (by rw [e x hx]; exact nx) (by rw [e y hy]; exact ny) (fun b2 Y2 => ?_)
        rw [e x hx, e y hy] at Y2
        have fin : ∀ b', rb_RY B b' (rb_up (rb_up (rb_up M 4 (N x * N y)) 4 (rb_up M 4 (N x * N y) 4 % B ^ 24)) x (rb_up M 4 (N x * N y) 4 % B ^ 24)) → i_Rel (k + 4) (nI B, c2, l1, g1, s1, p1, t, o) (nI B, b') := by
          intro b' Y3
          refine rb_mk hB hB2 R2 Y3 (fun q hq => ?_) ho
          rw [rb_upS]
          unfold rb_up
          by_cases c1 : q = x
          · rw [if_pos c1, if_pos c1]
          · rw [if_neg c1, if_neg c1, if_neg (by omega), if_neg (by omega), if_neg (by omega)]; exact e q hq
        refine ry_long (r := 4) hB hB2 (by omega) Y2 (fun z => br_t rfl ?_) (fun z => br_f (by decide) ?_)
        · rw [rb_upS] at z
          exact ry_low hB (by omega) Y2 (fun b' Y3 => ⟨(h1 z).symm, fin b' Y3⟩)
        · rw [rb_upS] at z
          exact ry_low hB (by omega) Y2 (fun b' Y3 => ⟨(h2 z).symm, fin b' Y3⟩)
      refine rx_over hB hB2 (rb_mul64 hB nx ny) hp (fun hs => br_t rfl (yy 0 (fun _ => rfl) (fun z => absurd hs z))) (fun hs => br_f (by decide) (yy 1 (fun z => absurd z hs) (fun _ => rfl)))
    · refine rx_reg hx (br_f (by decide) (hX _ (br_t rfl ?_)))
      unfold wpY_multiplyLow
      exact ry_reg hx (br_t rfl (hY _ _ _ (br_f (by decide) ⟨rfl, K⟩)))
  · refine hX _ (br_t rfl ?_)
    unfold wpY_multiplyLow
    exact hY _ _ _ (br_f (by decide) ⟨rfl, K⟩)
theorem i_vc_divide {k : Nat} {u : SX} {v : SY} (I : i_Rel k u v) (hk : k + 4 ≤ 2049) (v1 : Int32) (v2 : Int32) (v3 : Int32) : wpX_divide (fun r u' => wpY_divide (fun r' v' => r' = r ∧ i_Rel (k + 4) u' v') v v1 v2 v3) u v1 v2 v3 := by
  have K := i_up I
  obtain ⟨B, c, l, g, s, p, t, o, b, N, M, rfl, rfl, hB, hB2, R, Y, e, ho⟩ := I
  unfold wpX_divide
  rcases rb_reg v1 with ⟨x, hx, rfl⟩ | ⟨hX, hY⟩
  · rcases rb_reg v2 with ⟨y, hy, rfl⟩ | ⟨hX, hY⟩
    · rcases rb_reg v3 with ⟨z, hz, rfl⟩ | ⟨hX, hY⟩
      · refine rx_reg hx (br_f (by decide) (rx_reg hy (br_f (by decide) (rx_reg hz (br_f (by decide) ?_)))))
        have ne : ∀ {m n : Nat}, m < 4 → n < 4 → m ≠ n → ¬ nI m = nI n := fun h1 h2 h3 h4 => h3 ((nI_eq (by omega) (by omega)).mp h4)
        by_cases h1 : x = y
        · refine br_t (congrArg nI h1) ?_
          unfold wpY_divide
          exact ry_reg hx (br_t rfl (ry_reg hy (br_t rfl (ry_reg hz (br_t rfl (br_t (congrArg nI h1) ⟨rfl, K⟩))))))
        · refine br_f (ne hx hy h1) ?_
          by_cases h2 : x = z
          · refine br_t (congrArg nI h2) ?_
            unfold wpY_divide
            exact ry_reg hx (br_t rfl (ry_reg hy (br_t rfl (ry_reg hz (br_t rfl (br_f (ne hx hy h1) (br_t (congrArg nI h2) ⟨rfl, K⟩)))))))
          · refine br_f (ne hx hz h2) ?_
            by_cases h3 : y = z
            · refine br_t (congrArg nI h3) ?_
              unfold wpY_divide
              exact ry_reg hx (br_t rfl (ry_reg hy (br_t rfl (ry_reg hz (br_t rfl (br_f (ne hx hy h1) (br_f (ne hx hz h2) (br_t (congrArg nI h3) ⟨rfl, K⟩))))))))
            · refine br_f (ne hy hz h3) ?_
              have ny := (R y (by omega)).1
              have nz := (R z (by omega)).1
              refine rx_len hB hB2 (by omega) R (fun L hL h4 h5 => ?_)
              by_cases h6 : N z = 0
              · have hL0 : L = 0 := by
                  refine Nat.eq_zero_of_not_pos fun hp => ?_
                  have := h5 hp
                  have := rb_pp (B := B) (by omega) (L - 1)
                  omega
                subst hL0
                refine br_t rfl ?_
                unfold wpY_divide
                refine ry_reg hx (br_t rfl (ry_reg hy (br_t rfl (ry_reg hz (br_t rfl (br_f (ne hx hy h1) (br_f (ne hx hz h2) (br_f (ne hy hz h3) ?_))))))))
                exact ry_zero hB hB2 (by omega) Y (fun q => absurd (by rw [e z hz]; exact h6) q) (fun _ => br_f (by decide) ⟨rfl, K⟩)
              · have hL0 : 0 < L := by
                  refine Nat.pos_of_ne_zero fun hp => ?_
                  subst hp
                  rw [Nat.pow_zero] at h4
                  omega
                refine br_f (nI_ne0 hL0 (by omega)) (rx_div hB hB2 (by omega) (by omega) (by omega) h1 R (by omega) (fun c1 p1 t1 R1 => ?_))
                show wpY_divide _ _ _ _ _
                unfold wpY_divide
                refine ry_reg hx (br_t rfl (ry_reg hy (br_t rfl (ry_reg hz (br_t rfl (br_f (ne hx hy h1) (br_f (ne hx hz h2) (br_f (ne hy hz h3) ?_))))))))
                refine ry_zero hB hB2 (by omega) Y (fun _ => br_t rfl ?_) (fun q => absurd (by rw [e z hz] at q; exact q) h6)
                refine ry_div hB hB2 (by omega) (by omega) (by omega) h1 h2 (by rw [e y hy]; exact ny) (by rw [e z hz]; exact nz) (by rw [e z hz]; omega) Y (fun b' Y' => ⟨rfl, rb_mk hB hB2 R1 Y' (fun q hq => ?_) ho⟩)
                rw [e y hy, e z hz]
                unfold rb_up
                by_cases c1 : q = y
                · rw [if_pos c1, if_pos c1]
                · rw [if_neg c1, if_neg c1, if_neg (by omega)]
                  by_cases c2 : q = x
                  · rw [if_pos c2, if_pos c2]
                  · rw [if_neg c2, if_neg c2]; exact e q hq
      · refine rx_reg hx (br_f (by decide) (rx_reg hy (br_f (by decide) (hX _ (br_t rfl ?_)))))
        unfold wpY_divide
        exact ry_reg hx (br_t rfl (ry_reg hy (br_t rfl (hY _ _ _ (br_f (by decide) ⟨rfl, K⟩)))))
    · refine rx_reg hx (br_f (by decide) (hX _ (br_t rfl ?_)))
      unfold wpY_divide
      exact ry_reg hx (br_t rfl (hY _ _ _ (br_f (by decide) ⟨rfl, K⟩)))
  · refine hX _ (br_t rfl ?_)
    unfold wpY_divide
    exact hY _ _ _ (br_f (by decide) ⟨rfl, K⟩)
theorem fb_it_S (k : Nat) (x : Nat × Nat) {a d : Nat} (h : fb_it k x = (a, d)) (hd : ¬ d = 0) : fb_it (k + 1) x = (d, a % d) := by
  show fb_st (fb_it k x) = _
  rw [h]
  exact if_neg hd
theorem rx_gcd {B : Nat} {l g s o : Nat → Int32} {N : Nat → Nat} {post : Int32 → SX → Prop} {a : Nat} {x0 : Nat × Nat} (hB : 2 ≤ B) (hB2 : B ≤ 36) (ha : a < 4)
    (H : ∀ c' p' t' N', rb_RC B c' N' → (∀ q, q < 4 → N' q = rb_up N a (fb_it 200 x0).1 q) → post 0 (nI B, c', l, g, s, p', t', o)) :
    ∀ n k (c p t : Nat → Int32) (N' : Nat → Nat), k ≤ 200 → 200 - k < n → rb_RC B c N' → fb_it k x0 = (N' 4, N' 5) → (∀ q, q < 4 → N' q = N q) →
      wX_divisor_30 post (nI a) n (nI k) (nI B) c l g s p t o := by
  intro n
  induction n with
  | zero => intro k c p t N' _ h; omega
  | succ n ih =>
    intro k c p t N' hk h R hit hN
    have fin : fb_it 200 x0 = fb_it k x0 → wX_divisor_79 post (nI a) (nI B) c l g s p t o := by
      intro he
      unfold wX_divisor_79
      refine rx_assign (fr := 4) (by omega) (by omega) R (fun c' R' => H c' p t _ R' (fun q hq => ?_))
      rw [he, hit]
      unfold rb_up
      by_cases c1 : q = a
      · rw [if_pos c1, if_pos c1]
      · rw [if_neg c1, if_neg c1]; exact hN q hq
    refine pk_le 200 k (fun h1 => ?_) (fun h1 => ?_)
    · obtain rfl : k = 200 := by omega
      exact fin rfl
    · refine rx_len (a := 5) hB hB2 (by omega) R (fun L hL h4 h5 => ?_)
      refine pk_le L 0 (fun h6 => ?_) (fun h6 => ?_)
      · obtain rfl : L = 0 := by omega
        rw [Nat.pow_zero] at h4
        refine fin ?_
        have st := fb_stay (k := k) (x := x0) (by rw [hit]; show N' 5 = 0; omega) (200 - k)
        rw [show k + (200 - k) = 200 by omega] at st
        exact st
      · have h0 : 0 < N' 5 := by
          have := h5 h6
          have := rb_pp (B := B) (by omega) (L - 1)
          omega
        refine rx_div (q := 6) (a := 4) (b := 5) hB hB2 (by omega) (by omega) (by omega) (by omega) R h0 (fun c1 p1 t1 R1 => ?_)
        refine rx_assign (to := 6) (fr := 4) (by omega) (by omega) R1 (fun c2 R2 => ?_)
        refine rx_assign (to := 4) (fr := 5) (by omega) (by omega) R2 (fun c3 R3 => ?_)
        refine rx_assign (to := 5) (fr := 6) (by omega) (by omega) R3 (fun c4 R4 => ?_)
        refine nm_r (nI_1 k) (ih (k + 1) c4 p1 t1 _ (by omega) (by omega) R4 ?_ (fun q hq => ?_))
        · rw [fb_it_S k x0 hit (by omega)]
          rfl
        · rw [rb_upN (by omega), rb_upN (by omega), rb_upN (by omega), rb_upN (by omega), rb_upN (by omega)]
          exact hN q hq
theorem ry_gcd {B : Nat} {N : Nat → Nat} {post : Int32 → SY → Prop} {a : Nat} {x0 : Nat × Nat} (hB : 2 ≤ B) (hB2 : B ≤ 36) (ha : a < 4)
    (H : ∀ b' M', rb_RY B b' M' → (∀ q, q < 4 → M' q = rb_up N a (fb_it 400 x0).1 q) → post 0 (nI B, b')) :
    ∀ n k (b : Nat → Int32) (M : Nat → Nat), k ≤ 400 → 400 - k < n → rb_RY B b M → M 5 < B ^ 24 → M 6 < B ^ 24 → fb_it k x0 = (M 5, M 6) → (∀ q, q < 4 → M q = N q) →
      wY_divisor_33 post (nI a) n (nI k) (nI B) b := by
  intro n
  induction n with
  | zero => intro k b M _ h; omega
  | succ n ih =>
    intro k b M hk h R hm5 hm6 hit hN
    refine pk_le 400 k (fun h1 => ?_) (fun h1 => ?_)
    · obtain rfl : k = 400 := by omega
      refine ry_copy (fr := 5) (by omega) (by omega) R (fun b' R' => H b' _ R' (fun q hq => ?_))
      rw [hit]
      unfold rb_up
      by_cases c1 : q = a
      · rw [if_pos c1, if_pos c1]
      · rw [if_neg c1, if_neg c1]; exact hN q hq
    · refine ry_zero (r := 6) hB hB2 (by omega) R (fun h2 => ?_) (fun h2 => ?_)
      · refine br_t rfl (ry_div (q := 7) (a := 5) (d := 6) hB hB2 (by omega) (by omega) (by omega) (by omega) (by omega) hm5 hm6 (by omega) R (fun b1 R1 => ?_))
        refine ry_copy (fr := 5) (to := 8) (by omega) (by omega) R1 (fun b2 R2 => ?_)
        refine ry_copy (fr := 6) (to := 5) (by omega) (by omega) R2 (fun b3 R3 => ?_)
        refine ry_copy (fr := 8) (to := 6) (by omega) (by omega) R3 (fun b4 R4 => ?_)
        refine nm_r (nI_1 k) (ih (k + 1) b4 _ (by omega) (by omega) R4 ?_ ?_ ?_ (fun q hq => ?_))
        · exact hm6
        · exact Nat.lt_of_le_of_lt (Nat.mod_le _ _) hm5
        · rw [fb_it_S k x0 hit h2]
          rfl
        · rw [rb_upN (by omega), rb_upN (by omega), rb_upN (by omega), rb_upN (by omega), rb_upN (by omega), rb_upN (by omega)]
          exact hN q hq
      · refine br_f (by decide) (nm_r (nI_1 k) (ih (k + 1) b M (by omega) (by omega) R hm5 hm6 ?_ hN))
        have st := fb_stay (k := k) (x := x0) (by rw [hit]; exact h2) 1
        rw [st, hit]
theorem i_vc_divisor {k : Nat} {u : SX} {v : SY} (I : i_Rel k u v) (hk : k + 4 ≤ 2049) (v1 : Int32) (v2 : Int32) : wpX_divisor (fun r u' => wpY_divisor (fun r' v' => r' = r ∧ i_Rel (k + 4) u' v') v v1 v2) u v1 v2 := by
  have K := i_up I
  obtain ⟨B, c, l, g, s, p, t, o, b, N, M, rfl, rfl, hB, hB2, R, Y, e, ho⟩ := I
  unfold wpX_divisor
  rcases rb_reg v1 with ⟨x, hx, rfl⟩ | ⟨hX, hY⟩
  · rcases rb_reg v2 with ⟨y, hy, rfl⟩ | ⟨hX, hY⟩
    · refine rx_reg hx (br_f (by decide) (rx_reg hy (br_f (by decide) ?_)))
      have nx := (R x (by omega)).1
      have ny := (R y (by omega)).1
      have ny36 : N y ≤ 36 ^ 24 := Nat.le_trans (Nat.le_of_lt ny) (Nat.pow_le_pow_left hB2 24)
      refine rx_assign (to := 4) (by omega) (by omega) R (fun c1 R1 => ?_)
      refine rx_assign (to := 5) (by omega) (by omega) R1 (fun c2 R2 => Exists.intro 201 ?_)
      refine rx_gcd (N := N) (x0 := (N x, N y)) hB hB2 hx (fun c3 p3 t3 N3 R3 hN3 => ?_) 201 0 c2 p t _ (by omega) (by omega) R2 ?_ (fun q hq => ?_)
      · unfold wpY_divisor
        refine ry_reg hx (br_t rfl (ry_reg hy (br_t rfl ?_)))
        refine ry_copy (to := 5) (by omega) (by omega) Y (fun b1 Y1 => ?_)
        refine ry_copy (to := 6) (by omega) (by omega) Y1 (fun b2 Y2 => Exists.intro 401 ?_)
        have f5 : rb_up (rb_up M 5 (M x)) 6 (rb_up M 5 (M x) y) 5 = N x := by rw [rb_upN (by omega), rb_upS]; exact e x hx
        have f6 : rb_up (rb_up M 5 (M x)) 6 (rb_up M 5 (M x) y) 6 = N y := by rw [rb_upS, rb_upN (by omega)]; exact e y hy
        refine ry_gcd (N := N) (x0 := (N x, N y)) hB hB2 hx (fun b3 M3 Y3 hM3 => ⟨rfl, rb_mk hB hB2 R3 Y3 (fun q hq => ?_) ho⟩) 401 0 b2 _ (by omega) (by omega) Y2 (by rw [f5]; exact nx) (by rw [f6]; exact ny) ?_ (fun q hq => ?_)
        · rw [f5, f6]; rfl
        · rw [rb_upN (by omega), rb_upN (by omega)]; exact e q hq
        · rw [hM3 q hq, hN3 q hq]
          have st := fb_stay (k := 200) (x := (N x, N y)) (fb_200 _ _ ny36) 200
          rw [show 200 + 200 = 400 from rfl] at st
          rw [st]
      · show (N x, N y) = _
        rw [rb_upN (show 4 ≠ 5 by omega), rb_upS, rb_upS, rb_upN (show y ≠ 4 by omega)]
      · rw [rb_upN (by omega), rb_upN (by omega)]
    · refine rx_reg hx (br_f (by decide) (hX _ (br_t rfl ?_)))
      unfold wpY_divisor
      exact ry_reg hx (br_t rfl (hY _ _ _ (br_f (by decide) ⟨rfl, K⟩)))
  · refine hX _ (br_t rfl ?_)
    unfold wpY_divisor
    exact hY _ _ _ (br_f (by decide) ⟨rfl, K⟩)
end
section
/-! power -/
theorem pw_mono {A B j n : Nat} (hB : 2 ≤ B) (hjn : j ≤ n) (h : ¬ A ^ j < B ^ 24) : ¬ A ^ n < B ^ 24 := by
  have h1 : 1 < B ^ 24 := Nat.lt_of_lt_of_le (show 1 < 2 ^ 24 by decide) (Nat.pow_le_pow_left hB 24)
  by_cases c : A = 0
  · subst c
    exfalso
    apply h
    cases j with
    | zero => rw [Nat.pow_zero]; exact h1
    | succ j => rw [Nat.zero_pow (by omega)]; omega
  · have := Nat.pow_le_pow_right (n := A) (by omega) hjn
    omega
section
variable {B : Nat} {o t : Nat → Int32} {N : Nat → Nat}
theorem rx_pw {post : Int32 → SX → Prop} {a A n : Nat} (hB : 2 ≤ B) (hB2 : B ≤ 36) (ha : a < 4) (hn : n ≤ 100) (ho : ∀ j, j < 3 → o j = nI (rx_root j))
    (HK : ∀ c' l' g' s' p' N', A ^ n < B ^ 24 → rb_RC B c' N' → (∀ q, q < 4 → N' q = rb_up N a (A ^ n) q) → post 0 (nI B, c', l', g', s', p', t, o))
    (HF : ∀ c' l' g' s' p' N', ¬ A ^ n < B ^ 24 → rb_RC B c' N' → (∀ q, q < 4 → N' q = N q) → post (-3) (nI B, c', l', g', s', p', t, o)) :
    ∀ f k (c l g s p : Nat → Int32) (N' : Nat → Nat), k ≤ 8 → 8 - k < f → rb_RC B c N' → N' 5 = A ^ (n % 2 ^ k) → (n / 2 ^ k ≠ 0 → N' 6 = A ^ (2 ^ k)) → (∀ q, q < 4 → N' q = N q) →
      wX_power_47 post (nI a) f (nI (n / 2 ^ k)) (nI k) (nI B) c l g s p t o := by
  intro f
  induction f with
  | zero => intro k c l g s p N' _ h; omega
  | succ f ih =>
    intro k c l g s p N' hk h R h5 h6 hN
    have done : n / 2 ^ k = 0 → wX_power_129 post (nI a) (nI B) c l g s p t o := by
      intro hz
      have e : n % 2 ^ k = n := Nat.mod_eq_of_lt (rb_lt_q (by decide) hz)
      rw [e] at h5
      have lt := (R 5 (by omega)).1
      rw [h5] at lt
      unfold wX_power_129
      refine rx_assign (fr := 5) (by omega) (by omega) R (fun c' R' => HK c' l g s p _ lt R' (fun q hq => ?_))
      rw [h5]
      unfold rb_up
      by_cases c1 : q = a
      · rw [if_pos c1, if_pos c1]
      · rw [if_neg c1, if_neg c1]; exact hN q hq
    have hle : n / 2 ^ k ≤ n := Nat.div_le_self _ _
    refine pk_le 8 k (fun h1 => done ?_) (fun h1 => ?_)
    · obtain rfl : k = 8 := by omega
      exact Nat.div_eq_of_lt (by omega)
    · refine pk_le (n / 2 ^ k) 0 (fun h2 => done (Nat.le_zero.mp h2)) (fun h2 => ?_)
      have h6' := h6 (by omega)
      have hm := Nat.mod_pow_succ (x := n) (b := 2) (k := k)
      have eb : nI (n / 2 ^ k) &&& 1 = nI (n / 2 ^ k % 2) := by rw [pk_andN (by omega) 1 (by decide)]
      have hmodle : n % 2 ^ (k + 1) ≤ n := Nat.mod_le _ _
      have tail : ∀ (c l g s p : Nat → Int32) (N2 : Nat → Nat), rb_RC B c N2 → N2 5 = A ^ (n % 2 ^ (k + 1)) → N2 6 = A ^ (2 ^ k) → (∀ q, q < 4 → N2 q = N q) →
          wX_power_89 post (wX_power_47 post (nI a) f) (nI a) (nI (n / 2 ^ k)) (nI k) (nI B) c l g s p t o := by
        intro c l g s p N2 R2 h52 h62 hN2
        have esh : nI (n / 2 ^ k) >>> ((1 : Int32) &&& 31) = nI (n / 2 ^ (k + 1)) := by
          rw [pk_shrN (by omega) _ 1 (by decide), Nat.pow_one, rb_q]
        have hle2 : n / 2 ^ (k + 1) ≤ n := Nat.div_le_self _ _
        refine nm_r esh (pk_le (n / 2 ^ (k + 1)) 0 (fun h3 => nm_r (nI_1 k) (ih (k + 1) c l g s p N2 (by omega) (by omega) R2 h52 (fun z => absurd (Nat.le_zero.mp h3) z) hN2)) (fun h3 => ?_))
        refine rx_mulInto (to := 4) (a := 6) (b := 6) hB hB2 (by omega) (by omega) (by omega) R2 ho (fun c1 l1 g1 s1 p1 R1 hp => ?_)
        have n6 := (R2 6 (by omega)).1
        have esq : N2 6 * N2 6 = A ^ (2 ^ (k + 1)) := by rw [h62, ← Nat.pow_add, show 2 ^ k + 2 ^ k = 2 ^ (k + 1) by rw [Nat.pow_succ]; omega]
        refine rx_over hB hB2 (rb_mul64 hB n6 n6) hp (fun hs => br_t rfl ?_) (fun hs => br_f (by decide) ?_)
        · rw [Nat.mod_eq_of_lt hs] at R1
          refine rx_assign (to := 6) (fr := 4) (by omega) (by omega) R1 (fun c2 R3 => nm_r (nI_1 k) (ih (k + 1) c2 l1 g1 s1 p1 _ (by omega) (by omega) R3 ?_ (fun _ => ?_) (fun q hq => ?_)))
          · rw [rb_upN (by omega), rb_upN (by omega)]; exact h52
          · rw [rb_upS, rb_upS]; exact esq
          · rw [rb_upN (by omega), rb_upN (by omega)]; exact hN2 q hq
        · rw [esq] at hs
          have hle3 : 2 ^ (k + 1) ≤ n := by
            refine Nat.le_of_not_lt fun z => ?_
            rw [Nat.div_eq_of_lt z] at h3
            omega
          refine HF c1 l1 g1 s1 p1 _ (pw_mono hB hle3 hs) R1 (fun q hq => ?_)
          rw [rb_upN (by omega)]; exact hN2 q hq
      rw [eb]
      refine pk_eq (n / 2 ^ k % 2) 1 (fun h3 => ?_) (fun h3 => ?_)
      · have em : n % 2 ^ (k + 1) = n % 2 ^ k + 2 ^ k := by rw [hm, h3, Nat.mul_one]
        have epr : N' 5 * N' 6 = A ^ (n % 2 ^ (k + 1)) := by rw [h5, h6', ← Nat.pow_add, em]
        refine rx_mulInto (to := 4) (a := 5) (b := 6) hB hB2 (by omega) (by omega) (by omega) R ho (fun c1 l1 g1 s1 p1 R1 hp => ?_)
        have n5 := (R 5 (by omega)).1
        have n6 := (R 6 (by omega)).1
        refine rx_over hB hB2 (rb_mul64 hB n5 n6) hp (fun hs => br_t rfl ?_) (fun hs => br_f (by decide) ?_)
        · rw [Nat.mod_eq_of_lt hs] at R1
          refine rx_assign (to := 5) (fr := 4) (by omega) (by omega) R1 (fun c2 R3 => tail c2 l1 g1 s1 p1 _ R3 ?_ ?_ (fun q hq => ?_))
          · rw [rb_upS, rb_upS]; exact epr
          · rw [rb_upN (by omega), rb_upN (by omega)]; exact h6'
          · rw [rb_upN (by omega), rb_upN (by omega)]; exact hN q hq
        · rw [epr] at hs
          refine HF c1 l1 g1 s1 p1 _ (pw_mono hB hmodle hs) R1 (fun q hq => ?_)
          rw [rb_upN (by omega)]; exact hN q hq
      · have em : n % 2 ^ (k + 1) = n % 2 ^ k := by rw [hm, show n / 2 ^ k % 2 = 0 by omega, Nat.mul_zero, Nat.add_zero]
        exact tail c l g s p N' R (by rw [em]; exact h5) h6' hN
end
theorem ry_pw {B : Nat} {N : Nat → Nat} {post : Int32 → SY → Prop} {a A n : Nat} (hB : 2 ≤ B) (hB2 : B ≤ 36) (ha : a < 4) (hn : n ≤ 100) (hA : N a = A) (hA24 : A < B ^ 24)
    (HK : ∀ b' M', A ^ n < B ^ 24 → rb_RY B b' M' → (∀ q, q < 4 → M' q = rb_up N a (A ^ n) q) → post 0 (nI B, b'))
    (HF : ∀ b' M', ¬ A ^ n < B ^ 24 → rb_RY B b' M' → (∀ q, q < 4 → M' q = N q) → post (-3) (nI B, b')) :
    ∀ f k (b : Nat → Int32) (M : Nat → Nat), k ≤ n → n - k < f → rb_RY B b M → M 5 = A ^ k → A ^ k < B ^ 24 → (∀ q, q < 4 → M q = N q) →
      wY_power_31 post (nI a) (nI n) f (nI k) (nI B) b := by
  intro f
  induction f with
  | zero => intro k b M _ h; omega
  | succ f ih =>
    intro k b M hk h R h5 hlt hN
    refine pk_le n k (fun h1 => ?_) (fun h1 => ?_)
    · obtain rfl : k = n := by omega
      refine ry_copy (fr := 5) (by omega) (by omega) R (fun b' R' => HK b' _ hlt R' (fun q hq => ?_))
      rw [h5]
      unfold rb_up
      by_cases c1 : q = a
      · rw [if_pos c1, if_pos c1]
      · rw [if_neg c1, if_neg c1]; exact hN q hq
    · refine ry_mul (t := 6) (r := 5) (q := a) hB hB2 (by omega) (by omega) (by omega) (by omega) (by omega) R (by rw [h5]; exact hlt) (by rw [hN a ha, hA]; exact hA24) (fun b1 R1 => ?_)
      rw [h5, hN a ha, hA, ← Nat.pow_succ] at R1
      refine ry_long (r := 6) hB hB2 (by omega) R1 (fun z => br_t rfl ?_) (fun z => br_f (by decide) ?_)
      · rw [rb_upS] at z
        refine ry_copy (fr := 6) (to := 5) (by omega) (by omega) R1 (fun b2 R2 => nm_r (nI_1 k) (ih (k + 1) b2 _ (by omega) (by omega) R2 ?_ z (fun q hq => ?_)))
        · rw [rb_upS, rb_upS]
        · rw [rb_upN (by omega), rb_upN (by omega)]; exact hN q hq
      · rw [rb_upS] at z
        refine HF b1 _ (pw_mono hB (show k + 1 ≤ n by omega) z) R1 (fun q hq => ?_)
        rw [rb_upN (by omega)]; exact hN q hq
theorem rb_d1 {B : Nat} (hB : 2 ≤ B) (i : Nat) : rb_d B 1 i = if i = 0 then 1 else 0 := by
  by_cases c : i = 0
  · subst c
    rw [if_pos rfl]
    unfold rb_d
    rw [rb_q0, Nat.mod_eq_of_lt (by omega)]
  · rw [if_neg c]
    exact rb_d_hi (n := 1) (by omega) (by rw [Nat.pow_one]; omega) (by omega)
theorem i_vc_power {k : Nat} {u : SX} {v : SY} (I : i_Rel k u v) (hk : k + 4 ≤ 2049) (v1 : Int32) (v2 : Int32) : wpX_power (fun r u' => wpY_power (fun r' v' => r' = r ∧ i_Rel (k + 4) u' v') v v1 v2) u v1 v2 := by
  have K := i_up I
  obtain ⟨B, c, l, g, s, p, t, o, b, N, M, rfl, rfl, hB, hB2, R, Y, e, ho⟩ := I
  unfold wpX_power
  rcases rb_reg v1 with ⟨a, ha, rfl⟩ | ⟨hX, hY⟩
  · refine rx_reg ha (br_f (by decide) ?_)
    by_cases h1 : v2 < 0
    · refine br_t h1 ?_
      unfold wpY_power
      exact ry_reg ha (br_t rfl (br_t h1 ⟨rfl, K⟩))
    · by_cases h2 : v2 ≤ 100
      · obtain ⟨n, hn, rfl⟩ := nI_of2 (x := v2) (M := 100) (n := 100) (by decide) h1 h2
        have hna := (R a (by omega)).1
        have hb1 : 1 < B ^ 24 := Nat.lt_of_lt_of_le (show 1 < 2 ^ 24 by decide) (Nat.pow_le_pow_left hB 24)
        have yy : ∀ (r : Int32) (u' : SX), (∀ b' M', rb_RY B b' M' → N a ^ n < B ^ 24 → (∀ q, q < 4 → M' q = rb_up N a (N a ^ n) q) → r = 0 ∧ i_Rel (k + 4) u' (nI B, b')) →
            (∀ b' M', rb_RY B b' M' → ¬ N a ^ n < B ^ 24 → (∀ q, q < 4 → M' q = N q) → r = -3 ∧ i_Rel (k + 4) u' (nI B, b')) →
            wpY_power (fun r' v' => r' = r ∧ i_Rel (k + 4) u' v') (nI B, b) (nI a) (nI n) := by
          intro r u' q1 q2
          unfold wpY_power
          refine ry_reg ha (br_t rfl (br_f h1 (br_t h2 ?_)))
          refine ry_set (to := 5) (v := 1) hB (by omega) (by omega) Y (fun b1 Y1 => Exists.intro (n + 1) ?_)
          refine ry_pw (N := N) (A := N a) hB hB2 ha hn rfl hna (fun b' M' z Y' hM => ?_) (fun b' M' z Y' hM => ?_) (n + 1) 0 b1 _ (by omega) (by omega) Y1 ?_ ?_ (fun q hq => ?_)
          · have w := q1 b' M' Y' z hM
            exact ⟨w.1.symm, w.2⟩
          · have w := q2 b' M' Y' z hM
            exact ⟨w.1.symm, w.2⟩
          · rw [rb_upS, Nat.pow_zero]
          · rw [Nat.pow_zero]; exact hb1
          · rw [rb_upN (by omega)]; exact e q hq
        refine br_f h1 (br_t h2 (rx_zero (to := 5) hB (by omega) R (fun c1 R1 => nm_e ?_)))
        have R2 := rb_RCd (to := 5) (c' := upd c1 120 1) R1 hb1 (fun i hi => by
          rw [rb_d1 hB]
          by_cases q : i = 0
          · subst q; rw [if_pos rfl]; exact pk_us
          · rw [if_neg q, pk_un (by omega), (R1 5 (by omega)).2 i hi, rb_upS, rb_d0]) (fun k hk => pk_un (by omega))
        refine rx_assign (to := 6) (by omega) (by omega) R2 (fun c3 R3 => Exists.intro 9 ?_)
        have r := rx_pw (N := N) (t := t) (A := N a) (n := n) (post := fun r u' => wpY_power (fun r' v' => r' = r ∧ i_Rel (k + 4) u' v') (nI B, b) (nI a) (nI n)) hB hB2 ha hn ho
          (fun c' l' g' s' p' N' z R' hN' => yy _ _ (fun b' M' Y' _ hM => ⟨rfl, rb_mk hB hB2 R' Y' (fun q hq => (hM q hq).trans (hN' q hq).symm) ho⟩) (fun b' M' Y' z' hM => absurd z z'))
          (fun c' l' g' s' p' N' z R' hN' => yy _ _ (fun b' M' Y' z' hM => absurd z' z) (fun b' M' Y' _ hM => ⟨rfl, rb_mk hB hB2 R' Y' (fun q hq => (hM q hq).trans (hN' q hq).symm) ho⟩))
          9 0 c3 l g s p _ (by omega) (by omega) R3 ?_ (fun _ => ?_) (fun q hq => ?_)
        · rw [Nat.pow_zero, Nat.div_one] at r
          exact r
        · rw [rb_upN (by omega), rb_upS, Nat.pow_zero, Nat.mod_one, Nat.pow_zero]
        · rw [rb_upS, rb_upN (by omega), rb_upN (by omega), Nat.pow_zero, Nat.pow_one]
        · rw [rb_upN (by omega), rb_upN (by omega), rb_upN (by omega)]
      · refine br_f h1 (br_f h2 ?_)
        unfold wpY_power
        exact ry_reg ha (br_t rfl (br_f h1 (br_f h2 ⟨rfl, K⟩)))
  · refine hX _ (br_t rfl ?_)
    unfold wpY_power
    exact hY _ _ _ (br_f (by decide) ⟨rfl, K⟩)
end
section
/-! root -/
theorem rb_ones {B : Nat} (hB : 2 ≤ B) (h i : Nat) : rb_d B (B ^ h - 1) i = if i < h then B - 1 else 0 := by
  have pp : ∀ n, 0 < B ^ n := rb_pp (by omega)
  by_cases c : i < h
  · rw [if_pos c]
    obtain ⟨m, rfl⟩ : ∃ m, h = i + (m + 1) := ⟨h - i - 1, by omega⟩
    have e1 : B ^ (i + (m + 1)) - 1 = B ^ i * (B ^ (m + 1) - 1) + (B ^ i - 1) := by
      rw [Nat.pow_add, Nat.mul_sub, Nat.mul_one]
      have : B ^ i * 1 ≤ B ^ i * B ^ (m + 1) := Nat.mul_le_mul_left _ (pp _)
      have := pp i
      omega
    have e2 : B ^ (m + 1) - 1 = B * (B ^ m - 1) + (B - 1) := by
      rw [Nat.pow_succ', Nat.mul_sub, Nat.mul_one]
      have : B * 1 ≤ B * B ^ m := Nat.mul_le_mul_left _ (pp _)
      omega
    unfold rb_d
    rw [e1, Nat.mul_add_div (pp i), Nat.div_eq_of_lt (by have := pp i; omega), Nat.add_zero, e2, Nat.mul_add_mod, Nat.mod_eq_of_lt (by omega)]
  · rw [if_neg c]
    exact rb_d_hi (n := h) (by omega) (by have := pp h; omega) (by omega)
section
variable {B : Nat} {l g s o : Nat → Int32} {N : Nat → Nat}
theorem rx_rt66 {post : Int32 → SX → Prop} {a A r x0 : Nat} (hB : 2 ≤ B) (hB2 : B ≤ 36) (ha : a < 4) (hA : N a = A) (h1 : r * r ≤ A) (h2 : A < (r + 1) * (r + 1)) (hr : 0 < r) (hr2 : r < 9223372036854775808) (hx : r ≤ x0) (h36 : x0 ≤ 36 * r) (h12 : x0 < B ^ 12)
    (H : ∀ c' p' t' N', rb_RC B c' N' → (∀ q, q < 4 → N' q = rb_up N a r q) → post 0 (nI B, c', l, g, s, p', t', o)) :
    ∀ n k (c p t : Nat → Int32) (N' : Nat → Nat), k ≤ 40 → 40 - k < n → rb_RC B c N' → N' 4 = nw_x A x0 k → (∀ j, j < k → nw_x A x0 (j + 1) < nw_x A x0 j) → (∀ q, q < 4 → N' q = N q) →
      wX_root_66 post (nI a) n (nI k) (nI B) c l g s p t o := by
  have ge := nw_x_ge h1 hr hx
  intro n
  induction n with
  | zero => intro k c p t N' _ h; omega
  | succ n ih =>
    intro k c p t N' hk h R h4 dec hN
    refine pk_le 40 k (fun h3 => ?_) (fun h3 => ?_)
    · exact (nw_end h1 h2 hr hr2 hx h36 (fun j hj => dec j (by omega))).elim
    · have le0 : ∀ j, j ≤ k → nw_x A x0 j ≤ x0 := by
        intro j
        induction j with
        | zero => intro _; exact Nat.le_refl _
        | succ j ihj =>
          intro hj
          have q1 := ihj (by omega)
          have q2 := dec j (by omega)
          omega
      have hxk := le0 k (Nat.le_refl _)
      have hgk := ge k
      generalize hxx : nw_x A x0 k = x at *
      have hx0 : 0 < x := by omega
      have nxt : nw_x A x0 (k + 1) = (A / x + x) / 2 := by rw [← hxx]; rfl
      have hAx : A / x ≤ r + 2 := by
        have q1 : A / x ≤ A / r := Nat.div_le_div_left hgk hr
        have q2 : A / r < r + 3 := by
          refine (Nat.div_lt_iff_lt_mul hr).mpr ?_
          have e1 : (r + 3) * r = r * r + 3 * r := by rw [Nat.add_mul]
          have e2 : (r + 1) * (r + 1) = r * r + 2 * r + 1 := by grind
          omega
        omega
      have hsum : A / x + x < B ^ 24 := by
        have p13 : 2 * B ^ 12 ≤ B ^ 13 := by rw [Nat.pow_succ B 12, Nat.mul_comm]; exact Nat.mul_le_mul_left _ hB
        have p24 : B ^ 13 < B ^ 24 := Nat.pow_lt_pow_right (by omega) (by omega)
        generalize A / x = y at *
        omega
      refine rx_assign (to := 5) (fr := a) (by omega) (by omega) R (fun c1 R1 => ?_)
      have e4 : rb_up N' 5 (N' a) 4 = x := (rb_upN (by omega)).trans h4
      have e5 : rb_up N' 5 (N' a) 5 = A := (rb_upS _ _ _).trans ((hN a ha).trans hA)
      refine rx_div (q := 6) (a := 5) (b := 4) hB hB2 (by omega) (by omega) (by omega) (by omega) R1 (by rw [e4]; exact hx0) (fun c2 p2 t2 R2 => ?_)
      rw [e4, e5] at R2
      refine rx_addTo (a := 6) (b := 4) hB hB2 (by omega) (by omega) (by omega) R2 (fun c3 R3 => ?_)
      have f6 : rb_up (rb_up (rb_up N' 5 (N' a)) 6 (A / x)) 5 (A % x) 6 = A / x := by rw [rb_upN (by omega), rb_upS]
      have f4 : rb_up (rb_up (rb_up N' 5 (N' a)) 6 (A / x)) 5 (A % x) 4 = x := by rw [rb_upN (by omega), rb_upN (by omega)]; exact e4
      rw [f6, f4, Nat.mod_eq_of_lt hsum] at R3
      refine rx_halve (a := 6) hB hB2 (by omega) R3 (fun c4 R4 => ?_)
      rw [rb_upS, ← nxt] at R4
      have g6 : rb_up (rb_up (rb_up (rb_up (rb_up N' 5 (N' a)) 6 (A / x)) 5 (A % x)) 6 (A / x + x)) 6 (nw_x A x0 (k + 1)) 6 = nw_x A x0 (k + 1) := rb_upS _ _ _
      have g4 : rb_up (rb_up (rb_up (rb_up (rb_up N' 5 (N' a)) 6 (A / x)) 5 (A % x)) 6 (A / x + x)) 6 (nw_x A x0 (k + 1)) 4 = x := by
        rw [rb_upN (by omega), rb_upN (by omega)]; exact f4
      have gq : ∀ q, q < 4 → rb_up (rb_up (rb_up (rb_up (rb_up N' 5 (N' a)) 6 (A / x)) 5 (A % x)) 6 (A / x + x)) 6 (nw_x A x0 (k + 1)) q = N q := by
        intro q hq
        rw [rb_upN (by omega), rb_upN (by omega), rb_upN (by omega), rb_upN (by omega), rb_upN (by omega)]; exact hN q hq
      generalize rb_up (rb_up (rb_up (rb_up (rb_up N' 5 (N' a)) 6 (A / x)) 5 (A % x)) 6 (A / x + x)) 6 (nw_x A x0 (k + 1)) = N4 at *
      have stop : x ≤ nw_x A x0 (k + 1) → wX_root_127 post (nI a) (nI B) c4 l g s p2 t2 o := by
        intro hle
        have hxr : x = r := by
          rw [nxt] at hle
          have := nw_stop h2 hx0 hle
          omega
        unfold wX_root_127
        refine rx_assign (fr := 4) (by omega) (by omega) R4 (fun c5 R5 => H c5 p2 t2 _ R5 (fun q hq => ?_))
        rw [g4, hxr]
        unfold rb_up
        by_cases c1 : q = a
        · rw [if_pos c1, if_pos c1]
        · rw [if_neg c1, if_neg c1]; exact gq q hq
      refine rx_order (a := 6) (b := 4) hB hB2 (by omega) (by omega) R4 (fun z d hd => br_t hd ?_) (fun z => br_f (by decide) (stop ?_)) (fun z d hd => br_f (Int32.not_lt.mpr (Int32.le_of_lt hd)) (stop ?_))
      · rw [g6, g4] at z
        refine rx_assign (to := 4) (fr := 6) (by omega) (by omega) R4 (fun c5 R5 => nm_r (nI_1 k) (ih (k + 1) c5 p2 t2 _ (by omega) (by omega) R5 ?_ (fun j hj => ?_) (fun q hq => ?_)))
        · rw [rb_upS]; exact g6
        · by_cases e : j = k
          · rw [e, hxx]; exact z
          · exact dec j (by omega)
        · rw [rb_upN (by omega)]; exact gq q hq
      · rw [g6, g4] at z; omega
      · rw [g6, g4] at z; omega
end
end
section
/-! root: the reference, and the call -/
theorem rb_shd {B : Nat} (hB : 0 < B) (w j i : Nat) : rb_d B (w * B ^ j) i = if i < j then 0 else rb_d B w (i - j) := by
  by_cases c : i < j
  · rw [if_pos c]
    obtain ⟨m, rfl⟩ : ∃ m, j = i + (m + 1) := ⟨j - i - 1, by omega⟩
    unfold rb_d
    have e : w * B ^ (i + (m + 1)) = w * B ^ m * B * B ^ i := by
      rw [Nat.pow_add B i (m + 1), Nat.pow_succ]; grind
    rw [e, Nat.mul_div_cancel _ (rb_pp hB i), Nat.mul_mod_left]
  · rw [if_neg c]
    obtain ⟨m, rfl⟩ : ∃ m, i = j + m := ⟨i - j, by omega⟩
    unfold rb_d
    rw [Nat.pow_add, ← Nat.div_div_eq_div_mul, Nat.mul_div_cancel _ (rb_pp hB j), show j + m - j = m by omega]
/-- changing one digit of a number whose lower digits are zero -/
theorem rb_shd2 {B : Nat} (hB : 0 < B) {z y d j : Nat} (hy : y < B) (hd : d < B) (i : Nat) : rb_d B ((z * B + d) * B ^ j) i = if i = j then d else rb_d B ((z * B + y) * B ^ j) i := by
  rw [rb_shd hB, rb_shd hB]
  by_cases c : i < j
  · rw [if_pos c, if_pos c, if_neg (by omega)]
  · rw [if_neg c, if_neg c]
    by_cases c2 : i = j
    · rw [if_pos c2, c2, Nat.sub_self, show z * B + d = d + B * z by rw [Nat.mul_comm, Nat.add_comm], rb_d_Z hd]
    · rw [if_neg c2]
      obtain ⟨m, hm⟩ : ∃ m, i - j = m + 1 := ⟨i - j - 1, by omega⟩
      rw [hm, show z * B + d = d + B * z by rw [Nat.mul_comm, Nat.add_comm], show z * B + y = y + B * z by rw [Nat.mul_comm, Nat.add_comm], rb_d_S hB hd, rb_d_S hB hy]
section
variable {B : Nat} {N : Nat → Nat}
theorem ry_rt33 {post : Int32 → SY → Prop} {J : Int32 → Int32 → (Nat → Int32) → Prop} {a A r j : Nat} (hB : 2 ≤ B) (hB2 : B ≤ 36) (ha : a < 4) (hA : N a = A) (h1 : r * r ≤ A) (h2 : A < (r + 1) * (r + 1)) (hr : r < B ^ 13) (hj : j < 13)
    (H : ∀ b' M', rb_RY B b' M' → M' 5 = r / B ^ j * B ^ j → (∀ q, q < 4 → M' q = N q) → J (nI j + (-1)) (nI B) b') :
    ∀ n e y (b : Nat → Int32) (M : Nat → Nat), e ≤ B → e < n → rb_d B r j < e → y < B → rb_RY B b M → M 5 = (r / B ^ (j + 1) * B + y) * B ^ j → (∀ q, q < 4 → M q = N q) →
      wY_root_33 post J (nI a) (nI j) n 0 (nI e + (-1)) (nI B) b := by
  intro n
  induction n with
  | zero => intro e y b M _ h; omega
  | succ n ih =>
    intro e y b M he h hre hy R h5 hN
    cases e with
    | zero => omega
    | succ d =>
      have hd : d < B := by omega
      rw [pk_m1]
      generalize hz : r / B ^ (j + 1) = z at *
      have hst : r / B ^ j = z * B + rb_d B r j := by rw [rb_st B r j, hz, Nat.mul_comm]
      have hix : (250 : Int32) + nI j = nI (250 + j) := nI_add 250 j
      have hin : vp_in ((250 : Int32) + nI j) 500 := by rw [hix]; exact vp_in_nI (by omega) (by omega)
      have hcl : ((250 : Int32) + nI j).toNatClampNeg = 250 + j := by rw [hix]; exact nI_clamp (by omega)
      have hc13 : (z * B + d) * B ^ j < B ^ 13 := by
        have q1 : z < B ^ (12 - j) := by
          rw [← hz]
          refine Nat.div_lt_of_lt_mul ?_
          rw [← Nat.pow_add, show j + 1 + (12 - j) = 13 by omega]
          exact hr
        have q2 : z * B + d < B ^ (13 - j) := by
          have q3 : (z + 1) * B ≤ B ^ (12 - j) * B := Nat.mul_le_mul_right B q1
          rw [Nat.add_mul, Nat.one_mul, ← Nat.pow_succ, show (12 - j).succ = 13 - j by omega] at q3
          omega
        have q4 : (z * B + d + 1) * B ^ j ≤ B ^ (13 - j) * B ^ j := Nat.mul_le_mul_right _ q2
        rw [← Nat.pow_add, show 13 - j + j = 13 by omega, Nat.add_mul, Nat.one_mul] at q4
        have := rb_pp (B := B) (by omega) j
        omega
      have hc24 : (z * B + d) * B ^ j < B ^ 24 := Nat.lt_of_lt_of_le hc13 (Nat.pow_le_pow_right (by omega) (by omega))
      have R1 := rb_RYd (to := 5) (c' := upd b (250 + j) (nI d)) R (rb_p50 hB hc24) (fun i hi => by
        rw [rb_shd2 (by omega) hy hd, ← h5]
        by_cases q : i = j
        · rw [if_pos q, q]; exact pk_us
        · rw [if_neg q, pk_un (by omega)]; exact (R 5 (by omega)).2 i hi) (fun k hk => pk_un (by omega))
      refine br_f (nI_pos (by omega)) (br_t rfl ⟨hin, nm_r (e' := upd b (250 + j) (nI d)) (by rw [hcl]) ?_⟩)
      refine ry_mul (t := 6) (r := 5) (q := 5) hB hB2 (by omega) (by omega) (by omega) (by omega) (by omega) R1 (by rw [rb_upS]; exact hc24) (by rw [rb_upS]; exact hc24) (fun b2 R2 => ?_)
      rw [rb_upS] at R2
      have f6 : rb_up (rb_up M 5 ((z * B + d) * B ^ j)) 6 ((z * B + d) * B ^ j * ((z * B + d) * B ^ j)) 6 = (z * B + d) * B ^ j * ((z * B + d) * B ^ j) := rb_upS _ _ _
      have fa : rb_up (rb_up M 5 ((z * B + d) * B ^ j)) 6 ((z * B + d) * B ^ j * ((z * B + d) * B ^ j)) a = A := by rw [rb_upN (by omega), rb_upN (by omega), hN a ha]; exact hA
      have f5 : rb_up (rb_up M 5 ((z * B + d) * B ^ j)) 6 ((z * B + d) * B ^ j * ((z * B + d) * B ^ j)) 5 = (z * B + d) * B ^ j := by rw [rb_upN (by omega), rb_upS]
      have fq : ∀ q, q < 4 → rb_up (rb_up M 5 ((z * B + d) * B ^ j)) 6 ((z * B + d) * B ^ j * ((z * B + d) * B ^ j)) q = N q := by
        intro q hq
        rw [rb_upN (by omega), rb_upN (by omega)]; exact hN q hq
      generalize rb_up (rb_up M 5 ((z * B + d) * B ^ j)) 6 ((z * B + d) * B ^ j * ((z * B + d) * B ^ j)) = M2 at *
      have cmp : (z * B + d) * B ^ j ≤ r ↔ d ≤ rb_d B r j := by
        rw [← Nat.le_div_iff_mul_le (rb_pp (by omega) j), hst]
        omega
      have low : ¬ A < (z * B + d) * B ^ j * ((z * B + d) * B ^ j) → ∀ w : Int32, w = nI d + (-1) → wY_root_33 post J (nI a) (nI j) n 1 w (nI B) b2 := by
        intro hle w ew
        have hdr : d = rb_d B r j := by
          have := cmp.mp (nw_le h2 (by omega))
          omega
        have fin : J (nI j + (-1)) (nI B) b2 := H b2 M2 R2 (by rw [f5, hdr, hst]) fq
        cases n with
        | zero => omega
        | succ n =>
          rw [ew]
          cases d with
          | zero => exact br_t rb_m1neg (nm_e fin)
          | succ d => rw [pk_m1]; exact br_f (nI_pos (by omega)) (br_f (by decide) (nm_e fin))
      have high : A < (z * B + d) * B ^ j * ((z * B + d) * B ^ j) → wY_root_33 post J (nI a) (nI j) n 0 (nI d + (-1)) (nI B) b2 := by
        intro hlt
        have hdr : rb_d B r j < d := by
          refine Nat.lt_of_not_le fun q => ?_
          have q2 := cmp.mpr q
          have q3 := Nat.mul_le_mul q2 q2
          omega
        exact ih d d b2 M2 (by omega) (by omega) hdr hd R2 f5 fq
      refine ry_order (r := 6) (q := a) hB hB2 (by omega) (by omega) R2 (fun q => br_f (by decide) (low ?_)) (fun q => br_f (by decide) (low ?_)) (fun q => br_t (by decide) (nm_e (high ?_)))
      · rw [f6, fa] at q; omega
      · rw [f6, fa] at q; omega
      · rw [f6, fa] at q; exact q
theorem ry_rt19 {post : Int32 → SY → Prop} {a A r : Nat} (hB : 2 ≤ B) (hB2 : B ≤ 36) (ha : a < 4) (hA : N a = A) (h1 : r * r ≤ A) (h2 : A < (r + 1) * (r + 1)) (hr : r < B ^ 13)
    (H : ∀ b' M', rb_RY B b' M' → (∀ q, q < 4 → M' q = rb_up N a r q) → post 0 (nI B, b')) :
    ∀ n k (b : Nat → Int32) (M : Nat → Nat), k ≤ 13 → k < n → rb_RY B b M → M 5 = r / B ^ k * B ^ k → (∀ q, q < 4 → M q = N q) → wY_root_19 post (nI a) n (nI k + (-1)) (nI B) b := by
  intro n
  induction n with
  | zero => intro k b M _ h; omega
  | succ n ih =>
    intro k b M hk h R h5 hN
    cases k with
    | zero =>
      refine br_t rb_m1neg (ry_copy (fr := 5) (by omega) (by omega) R (fun b' R' => H b' _ R' (fun q hq => ?_)))
      rw [h5, rb_q0, Nat.pow_zero, Nat.mul_one]
      unfold rb_up
      by_cases c1 : q = a
      · rw [if_pos c1, if_pos c1]
      · rw [if_neg c1, if_neg c1]; exact hN q hq
    | succ j =>
      rw [pk_m1]
      have e1 : nI B - 1 = nI B + (-1) := by
        generalize nI B = x
        grind
      refine br_f (nI_pos (by omega)) (nm_r e1 (Exists.intro (B + 1) ?_))
      exact ry_rt33 hB hB2 ha hA h1 h2 hr (by omega) (fun b' M' R' h5' hN' => ih j b' M' (by omega) (by omega) R' h5' hN') (B + 1) B 0 b M (Nat.le_refl _) (by omega) (rb_d_lt (by omega) _ _) (by omega) R (by rw [h5, Nat.add_zero, Nat.pow_succ]; grind) hN
end
theorem i_vc_root {k : Nat} {u : SX} {v : SY} (I : i_Rel k u v) (hk : k + 4 ≤ 2049) (v1 : Int32) : wpX_root (fun r u' => wpY_root (fun r' v' => r' = r ∧ i_Rel (k + 4) u' v') v v1) u v1 := by
  have K := i_up I
  obtain ⟨B, c, l, g, s, p, t, o, b, N, M, rfl, rfl, hB, hB2, R, Y, e, ho⟩ := I
  unfold wpX_root
  rcases rb_reg v1 with ⟨a, ha, rfl⟩ | ⟨hX, hY⟩
  · refine rx_reg ha (br_f (by decide) ?_)
    have hna := (R a (by omega)).1
    obtain ⟨r, h1, h2⟩ := nw_sqrt (N a)
    have hr12 : r < B ^ 12 := by
      refine Nat.lt_of_not_le fun q => ?_
      have q2 := Nat.mul_le_mul q q
      rw [← Nat.pow_add, show 12 + 12 = 24 from rfl] at q2
      omega
    have yy : ∀ (u' : SX), (∀ b' M', rb_RY B b' M' → (∀ q, q < 4 → M' q = rb_up N a r q) → i_Rel (k + 4) u' (nI B, b')) →
        wpY_root (fun r' v' => r' = 0 ∧ i_Rel (k + 4) u' v') (nI B, b) (nI a) := by
      intro u' q1
      unfold wpY_root
      refine ry_reg ha (br_t rfl (ry_set (to := 5) (v := 0) hB (by omega) (by omega) Y (fun b1 Y1 => Exists.intro 14 ?_)))
      have hr13 : r < B ^ 13 := Nat.lt_of_lt_of_le hr12 (Nat.pow_le_pow_right (by omega) (by omega))
      have q := ry_rt19 (N := N) (post := fun r' v' => r' = 0 ∧ i_Rel (k + 4) u' v') hB hB2 ha rfl h1 h2 hr13 (fun b' M' Y' hM => ⟨rfl, q1 b' M' Y' hM⟩) 14 13 b1 _ (by omega) (by omega) Y1 (by rw [rb_upS, rb_hi0 (by omega) hr13 (Nat.le_refl _), Nat.zero_mul]) (fun q hq => (rb_upN (by omega)).trans (e q hq))
      exact q
    refine rx_len hB hB2 (by omega) R (fun L hL h3 h4 => ?_)
    refine pk_eq L 0 (fun h5 => ?_) (fun h5 => ?_)
    · subst h5
      rw [Nat.pow_zero] at h3
      have hr0 : r = 0 := by
        cases r with
        | zero => rfl
        | succ r =>
          have : 1 * 1 ≤ (r + 1) * (r + 1) := Nat.mul_le_mul (by omega) (by omega)
          omega
      refine yy _ (fun b' M' Y' hM => rb_mk hB hB2 R Y' (fun q hq => ?_) ho)
      rw [hM q hq, hr0]
      unfold rb_up
      by_cases c1 : q = a
      · rw [if_pos c1, c1]; omega
      · rw [if_neg c1]
    · have hge := h4 (by omega)
      have hbp := rb_pp (B := B) (by omega) (L - 1)
      have hr0 : 0 < r := by
        refine Nat.pos_of_ne_zero fun q => ?_
        subst q
        omega
      have hr63 : r < 9223372036854775808 := by
        have q1 : B ^ 12 ≤ 36 ^ 12 := Nat.pow_le_pow_left hB2 12
        have q2 : 36 ^ 12 < 9223372036854775808 := by decide
        omega
      refine rx_zero (to := 4) hB (by omega) R (fun c1 R1 => ?_)
      have esh : (nI L + 1) >>> ((1 : Int32) &&& 31) = nI ((L + 1) / 2) := by
        rw [nI_1, pk_shrN (by omega) _ 1 (by decide)]
      refine nm_r esh ?_
      have hhalf : (L + 1) / 2 ≤ 12 := by omega
      have hh0 : 0 < (L + 1) / 2 := by omega
      have hh1 : L ≤ 2 * ((L + 1) / 2) := by omega
      have hh2 : 2 * ((L + 1) / 2) ≤ L + 1 := by omega
      generalize (L + 1) / 2 = h at *
      have hlt24 : B ^ h - 1 < B ^ 24 := by
        have := Nat.pow_le_pow_right (n := B) (by omega) (show h ≤ 24 by omega)
        have := rb_pp (B := B) (by omega) h
        omega
      have fill : ∀ n j, j ≤ h → h - j < n → wX_root_35 (fun r u' => wpY_root (fun r' v' => r' = r ∧ i_Rel (k + 4) u' v') (nI B, b) (nI a)) (nI a) (nI h) (nI B) n (nI j) (rb_fil c1 96 (96 + j) (fun _ => nI (B - 1))) l g s p t o := by
        intro n
        induction n with
        | zero => intro j _ q; omega
        | succ n ih =>
          intro j hj q
          refine pk_le h j (fun h6 => ?_) (fun h6 => ?_)
          · obtain rfl : j = h := by omega
            have R2 := rb_RCd (to := 4) (c' := rb_fil c1 96 (96 + j) (fun _ => nI (B - 1))) R1 hlt24 (fun i hi => by
              rw [rb_ones hB]
              by_cases q : i < j
              · rw [if_pos q, rb_filI (by omega) (by omega)]
              · rw [if_neg q, rb_filO (by omega), (R1 4 (by omega)).2 i hi, rb_upS, rb_d0]) (fun k hk => rb_filO (by omega))
            refine Exists.intro 41 (rx_rt66 (N := N) (A := N a) (r := r) (x0 := B ^ j - 1) hB hB2 ha rfl h1 h2 hr0 hr63 ?_ ?_ ?_ (fun c5 p5 t5 N5 R5 hN5 => yy _ (fun b' M' Y' hM => rb_mk hB hB2 R5 Y' (fun q hq => (hM q hq).trans (hN5 q hq).symm) ho)) 41 0 _ p t _ (by omega) (by omega) R2 ?_ (fun j hj => absurd hj (by omega)) (fun q hq => ?_))
            · -- r ≤ B^j - 1
              have q1 : r < B ^ j := by
                refine Nat.lt_of_not_le fun q => ?_
                have q2 := Nat.mul_le_mul q q
                rw [← Nat.pow_add] at q2
                have q3 := Nat.pow_le_pow_right (n := B) (by omega) (show L ≤ j + j by omega)
                omega
              omega
            · -- B^j - 1 ≤ 36 r
              obtain ⟨m, rfl⟩ : ∃ m, j = m + 1 := ⟨j - 1, by omega⟩
              have q1 : B ^ m ≤ r := by
                refine nw_le h2 ?_
                rw [← Nat.pow_add]
                exact Nat.le_trans (Nat.pow_le_pow_right (by omega) (by omega)) hge
              have q2 : B ^ m * B ≤ r * 36 := Nat.mul_le_mul q1 hB2
              rw [← Nat.pow_succ, show m.succ = m + 1 from rfl] at q2
              omega
            · have := Nat.pow_le_pow_right (n := B) (by omega) (show j ≤ 12 by omega)
              have := rb_pp (B := B) (by omega) j
              omega
            · rw [rb_upS]; rfl
            · rw [rb_upN (by omega), rb_upN (by omega)]
          · have hix : (96 : Int32) + nI j = nI (96 + j) := nI_add 96 j
            refine ⟨by rw [hix]; exact vp_in_nI (by omega) (by omega), nm_r (e' := rb_fil c1 96 (96 + (j + 1)) (fun _ => nI (B - 1))) ?_ (nm_r (nI_1 j) (ih (j + 1) (by omega) (by omega)))⟩
            rw [hix, nI_clamp (by omega)]
            exact rb_filU (pk_sub (b := 1) (by omega))
      have q := fill (h + 1) 0 (by omega) (by omega)
      rw [Nat.add_zero, rb_fil0] at q
      exact Exists.intro (h + 1) q
  · refine hX _ (br_t rfl ?_)
    unfold wpY_root
    exact hY _ _ _ (br_f (by decide) ⟨rfl, K⟩)
end
