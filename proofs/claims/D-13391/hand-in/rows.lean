section
/-! lines of the starting text BITS.to-paste (wb_, pf_) -/
theorem wb_tb (n : Nat) : (lN n).toBitVec = BitVec.ofNat 64 n := rfl
theorem wb_inj {a b : Int64} (h : a.toBitVec = b.toBitVec) : a = b := Int64.toBitVec_inj.mp h
theorem wb_c : ∀ k, k < 64 → ((nI k).toInt64 &&& 63) = lN k := by decide +kernel
theorem wb_sm : ∀ k, k < 64 → (BitVec.ofNat 64 k).smod 64 = BitVec.ofNat 64 k := by decide +kernel
theorem wb_lt2 {a b : Nat} (h : a < b) : 2 ^ a < 2 ^ b := Nat.pow_lt_pow_right (by decide) h
theorem wb_shl (n : Nat) {k : Nat} (hk : k < 64) : lN n <<< ((nI k).toInt64 &&& 63) = lN (n * 2 ^ k) := by
  rw [wb_c k hk]
  apply wb_inj
  rw [Int64.toBitVec_shiftLeft, wb_tb, wb_tb, wb_tb, wb_sm k hk]
  apply BitVec.eq_of_toNat_eq
  rw [BitVec.shiftLeft_eq', BitVec.toNat_shiftLeft, BitVec.toNat_ofNat, BitVec.toNat_ofNat, BitVec.toNat_ofNat, Nat.mod_eq_of_lt (show k < 2 ^ 64 by omega), Nat.shiftLeft_eq, Nat.mul_mod, Nat.mod_mod, ← Nat.mul_mod]
theorem wb_and {a b : Nat} (ha : a < 2 ^ 64) (hb : b < 2 ^ 64) : lN a &&& lN b = lN (a &&& b) := by
  apply wb_inj
  rw [Int64.toBitVec_and, wb_tb, wb_tb, wb_tb]
  apply BitVec.eq_of_toNat_eq
  rw [BitVec.toNat_and, BitVec.toNat_ofNat, BitVec.toNat_ofNat, BitVec.toNat_ofNat, Nat.mod_eq_of_lt ha, Nat.mod_eq_of_lt hb, Nat.mod_eq_of_lt (Nat.and_lt_two_pow _ hb)]
theorem wb_mask {n k : Nat} (hn : n < 2 ^ 64) (hk : k < 64) : lN n &&& lN (2 ^ k - 1) = lN (n % 2 ^ k) := by
  rw [wb_and hn (by have := wb_lt2 hk; omega), Nat.and_two_pow_sub_one_eq_mod]
theorem pf_lI {a : Nat} (h : a < 2 ^ 63) : (lN a).toInt = (a : Int) := lg_ofNat_toInt h
theorem pf_shr {a d : Nat} {D : Int64} (hD : (D.toBitVec.smod 64).toNat = d) (h : a < 2 ^ 62) : lN a >>> D = lN (a / 2 ^ d) := by
  have hd : a / 2 ^ d ≤ a := Nat.div_le_self _ _
  apply Int64.toInt_inj.mp
  have e : (lN a >>> D).toInt = (lN a).toInt >>> d := by
    rw [← hD]
    exact BitVec.toInt_sshiftRight ..
  rw [e, Int.shiftRight_eq_div_pow, pf_lI (by omega), pf_lI (by omega)]
  rfl
/-! ints as Int32 -/
def rl_z (a : Int) : Int32 := Int32.ofInt a
/-- a fits into an int -/
def rl_r (a : Int) : Prop := -2147483648 ≤ a ∧ a < 2147483648
theorem rl_zn (n : Nat) : nI n = rl_z (n : Int) := (Int32.ofInt_eq_ofNat).symm
theorem rl_add (a b : Int) : rl_z a + rl_z b = rl_z (a + b) := (Int32.ofInt_add a b).symm
theorem rl_sub (a b : Int) : rl_z a - rl_z b = rl_z (a - b) := (Int32.ofInt_sub a b).symm
theorem rl_mul (a b : Int) : rl_z a * rl_z b = rl_z (a * b) := (Int32.ofInt_mul a b).symm
theorem rl_ti {a : Int} (h : rl_r a) : (rl_z a).toInt = a := by
  unfold rl_r at h
  exact Int32.toInt_ofInt_of_le (by omega) (by omega)
theorem rl_leI {a b : Int} (ha : rl_r a) (hb : rl_r b) : rl_z a ≤ rl_z b ↔ a ≤ b := by
  rw [Int32.le_iff_toInt_le, rl_ti ha, rl_ti hb]
theorem rl_ltI {a b : Int} (ha : rl_r a) (hb : rl_r b) : rl_z a < rl_z b ↔ a < b := by
  rw [Int32.lt_iff_toInt_lt, rl_ti ha, rl_ti hb]
theorem rl_eqI {a b : Int} (ha : rl_r a) (hb : rl_r b) : rl_z a = rl_z b ↔ a = b := by
  rw [← Int32.toInt_inj, rl_ti ha, rl_ti hb]
theorem rl_div {a b : Int} (ha : 0 ≤ a) (ha' : a < 2147483648) (hb : 0 < b) (hb' : b < 2147483648) : rl_z a / rl_z b = rl_z (a / b) := by
  obtain ⟨n, rfl⟩ := Int.eq_ofNat_of_zero_le ha
  obtain ⟨d, rfl⟩ := Int.eq_ofNat_of_zero_le (Int.le_of_lt hb)
  rw [← rl_zn, ← rl_zn, pk_div (by omega) (by omega) (by omega), rl_zn, Int.natCast_ediv]
/-- a branch over two ints -/
theorem rl_ble {x y : Int32} {A B : Prop} (a b : Int) (f : a ≤ b → A) (g : b < a → B) (hx : x = rl_z a := by first | assumption | rfl) (hy : y = rl_z b := by first | assumption | rfl) (ha : rl_r a := by unfold rl_r; omega) (hb : rl_r b := by unfold rl_r; omega) : (x ≤ y → A) ∧ (¬ x ≤ y → B) := by
  subst hx hy
  rw [rl_leI ha hb]
  exact ⟨f, fun z => g (by omega)⟩
theorem rl_blt {x y : Int32} {A B : Prop} (a b : Int) (f : a < b → A) (g : b ≤ a → B) (hx : x = rl_z a := by first | assumption | rfl) (hy : y = rl_z b := by first | assumption | rfl) (ha : rl_r a := by unfold rl_r; omega) (hb : rl_r b := by unfold rl_r; omega) : (x < y → A) ∧ (¬ x < y → B) := by
  subst hx hy
  rw [rl_ltI ha hb]
  exact ⟨f, fun z => g (by omega)⟩
theorem rl_beq {x y : Int32} {A B : Prop} (a b : Int) (f : a = b → A) (g : a ≠ b → B) (hx : x = rl_z a := by first | assumption | rfl) (hy : y = rl_z b := by first | assumption | rfl) (ha : rl_r a := by unfold rl_r; omega) (hb : rl_r b := by unfold rl_r; omega) : (x = y → A) ∧ (¬ x = y → B) := by
  subst hx hy
  rw [rl_eqI ha hb]
  exact ⟨f, fun z => g z⟩
/-! bits of small ints -/
theorem rl_bit : ∀ s, s < 8 → ∀ m, m < 4 → (((nI s >>> (nI m &&& 31)) &&& 1) = 1 ↔ s / 2 ^ m % 2 = 1) := by decide +kernel
theorem rl_m1 : ∀ s, s < 8 → ((nI s &&& 1) = 0 ↔ s % 2 = 0) := by decide +kernel
theorem rl_m2 : ∀ s, s < 8 → ((nI s &&& 2) = 0 ↔ s / 2 % 2 = 0) := by decide +kernel
theorem rl_m4 : ∀ s, s < 8 → ((nI s &&& 4) = 0 ↔ s / 4 % 2 = 0) := by decide +kernel
theorem rl_sh : ∀ m, m < 3 → (1 : Int32) <<< (nI m &&& 31) = nI (2 ^ m) := by decide +kernel
/-! the law's log: n < 2^50, ten lanes of five bits -/
theorem rl_d5 : ∀ i, i < 10 → (((5 * nI i).toInt64 &&& 63).toBitVec.smod 64).toNat = 5 * i := by decide +kernel
theorem rl_lane {n i : Nat} (hn : n < 2 ^ 50) (hi : i < 10) : ((lN n >>> ((5 * nI i).toInt64 &&& 63)) &&& 31).toInt32 = nI (n / 32 ^ i % 32) := by
  have h5 : (2 : Nat) ^ (5 * i) = 32 ^ i := by rw [Nat.pow_mul]
  have hd : n / 32 ^ i ≤ n := Nat.div_le_self _ _
  rw [pf_shr (rl_d5 i hi) (by omega), h5]
  have e : lN (n / 32 ^ i) &&& (31 : Int64) = lN (n / 32 ^ i % 2 ^ 5) := wb_mask (k := 5) (by omega) (by decide)
  rw [e, lN_i]
theorem rl_shl {n : Nat} (hn : n < 2 ^ 50) : (lN n <<< ((5 : Int32).toInt64 &&& 63)) &&& 1125899906842623 = lN (n * 32 % 2 ^ 50) := by
  have e : lN n <<< ((5 : Int32).toInt64 &&& 63) = lN (n * 2 ^ 5) := wb_shl n (k := 5) (by decide)
  rw [e]
  exact wb_mask (k := 50) (by omega) (by decide)
theorem rl_plus {n c : Nat} (hc : c < 2 ^ 31) : lN n + (nI c).toInt64 = lN (n + c) := by
  rw [nI_l hc, lN_add]
theorem rl_lane_lt (n i : Nat) : n / 32 ^ i % 32 < 32 := Nat.mod_lt _ (by decide)
theorem rl_lp0 {n c : Nat} (h : n % 32 + c < 32) : (n + c) / 32 ^ 0 % 32 = n / 32 ^ 0 % 32 + c := by
  rw [Nat.pow_zero, Nat.div_one, Nat.div_one]
  omega
theorem rl_lpS {n c : Nat} (i : Nat) (h : n % 32 + c < 32) : (n + c) / 32 ^ (i + 1) % 32 = n / 32 ^ (i + 1) % 32 := by
  have e : ∀ m : Nat, m / 32 ^ (i + 1) = m / 32 / 32 ^ i := by
    intro m
    rw [Nat.div_div_eq_div_mul, Nat.pow_succ, Nat.mul_comm]
  rw [e, e, show (n + c) / 32 = n / 32 by omega]
theorem rl_lp_lt {n c : Nat} (hn : n < 2 ^ 50) (h : n % 32 + c < 32) : n + c < 2 ^ 50 := by omega
theorem rl_ls0 (n : Nat) : (n * 32 % 2 ^ 50) / 32 ^ 0 % 32 = 0 := by
  rw [Nat.pow_zero, Nat.div_one]
  omega
theorem rl_lsS (n i : Nat) (hi : i < 9) : (n * 32 % 2 ^ 50) / 32 ^ (i + 1) % 32 = n / 32 ^ i % 32 := by
  have e : ∀ m : Nat, m / 32 ^ (i + 1) = m / 32 / 32 ^ i := by
    intro m
    rw [Nat.div_div_eq_div_mul, Nat.pow_succ, Nat.mul_comm]
  have e2 : n * 32 % 2 ^ 50 / 32 = n % 2 ^ 45 := by omega
  rw [e, e2]
  have h : ∀ j, j < 9 → n % 2 ^ 45 / 32 ^ j % 32 = n / 32 ^ j % 32 := by
    intro j hj
    have h9 : (2 : Nat) ^ 45 = 32 ^ j * 32 ^ (9 - j) := by
      rw [← Nat.pow_add, show j + (9 - j) = 9 by omega]
    rw [h9, Nat.mod_mul_right_div_self]
    exact Nat.mod_mod_of_dvd _ (by
      obtain ⟨k, hk⟩ : ∃ k, 9 - j = k + 1 := ⟨8 - j, by omega⟩
      rw [hk, Nat.pow_succ]
      exact Nat.dvd_mul_left _ _)
  exact h i hi
end
section
/-! the log of grants as a list of (time, cost) -/
def rl_sum : List (Int × Int) → Int
  | [] => 0
  | e :: q => e.2 + rl_sum q
/-- the costs of what was granted after x -/
def rl_W (x : Int) : List (Int × Int) → Int
  | [] => 0
  | e :: q => (if x < e.1 then e.2 else 0) + rl_W x q
/-- the costs of what was granted at t -/
def rl_cnt (t : Int) : List (Int × Int) → Int
  | [] => 0
  | e :: q => (if e.1 = t then e.2 else 0) + rl_cnt t q
/-- in order of time, from lo to N; costs of 1 or more -/
def rl_ok (N : Int) : Int → List (Int × Int) → Prop
  | _, [] => True
  | lo, e :: q => lo ≤ e.1 ∧ e.1 ≤ N ∧ 1 ≤ e.2 ∧ rl_ok N e.1 q
/-- without what was granted up to x -/
def rl_drop (x : Int) : List (Int × Int) → List (Int × Int)
  | [] => []
  | e :: q => if e.1 ≤ x then rl_drop x q else e :: q
theorem rl_ok_lo {N : Int} : ∀ (q : List (Int × Int)) {lo lo' : Int}, lo' ≤ lo → rl_ok N lo q → rl_ok N lo' q
  | [], _, _, _, _ => trivial
  | _ :: _, _, _, h, ⟨h1, h2⟩ => ⟨Int.le_trans h h1, h2⟩
theorem rl_ok_N {N N' : Int} (hN : N ≤ N') : ∀ (q : List (Int × Int)) {lo : Int}, rl_ok N lo q → rl_ok N' lo q
  | [], _, _ => trivial
  | _ :: q, _, ⟨h1, h2, h3, h4⟩ => ⟨h1, Int.le_trans h2 hN, h3, rl_ok_N hN q h4⟩
theorem rl_len {N : Int} : ∀ (q : List (Int × Int)) {lo : Int}, rl_ok N lo q → (q.length : Int) ≤ rl_sum q
  | [], _, _ => Int.le_refl 0
  | e :: q, _, ⟨h1, h2, h3, h4⟩ => by
    have := rl_len q h4
    show ((q.length + 1 : Nat) : Int) ≤ e.2 + rl_sum q
    omega
theorem rl_sum0 {N : Int} (q : List (Int × Int)) {lo : Int} (h : rl_ok N lo q) : 0 ≤ rl_sum q := by
  have := rl_len q h
  omega
theorem rl_Wb {N : Int} (x : Int) : ∀ (q : List (Int × Int)) {lo : Int}, rl_ok N lo q → 0 ≤ rl_W x q ∧ rl_W x q ≤ rl_sum q
  | [], _, _ => ⟨Int.le_refl 0, Int.le_refl 0⟩
  | e :: q, _, ⟨h1, h2, h3, h4⟩ => by
    have := rl_Wb x q h4
    show 0 ≤ (if x < e.1 then e.2 else 0) + rl_W x q ∧ (if x < e.1 then e.2 else 0) + rl_W x q ≤ e.2 + rl_sum q
    by_cases h : x < e.1
    · rw [if_pos h]; omega
    · rw [if_neg h]; omega
theorem rl_Wall {N x : Int} : ∀ (q : List (Int × Int)) {lo : Int}, x < lo → rl_ok N lo q → rl_W x q = rl_sum q
  | [], _, _, _ => rfl
  | e :: q, _, hx, ⟨h1, h2, h3, h4⟩ => by
    have := rl_Wall q (x := x) (Int.lt_of_lt_of_le hx h1) h4
    show (if x < e.1 then e.2 else 0) + rl_W x q = e.2 + rl_sum q
    rw [if_pos (Int.lt_of_lt_of_le hx h1), this]
theorem rl_cb {N : Int} (t : Int) : ∀ (q : List (Int × Int)) {lo : Int}, rl_ok N lo q → 0 ≤ rl_cnt t q ∧ rl_cnt t q ≤ rl_sum q
  | [], _, _ => ⟨Int.le_refl 0, Int.le_refl 0⟩
  | e :: q, _, ⟨h1, h2, h3, h4⟩ => by
    have := rl_cb t q h4
    show 0 ≤ (if e.1 = t then e.2 else 0) + rl_cnt t q ∧ (if e.1 = t then e.2 else 0) + rl_cnt t q ≤ e.2 + rl_sum q
    by_cases h : e.1 = t
    · rw [if_pos h]; omega
    · rw [if_neg h]; omega
theorem rl_cN {N t : Int} (ht : N < t) : ∀ (q : List (Int × Int)) {lo : Int}, rl_ok N lo q → rl_cnt t q = 0
  | [], _, _ => rfl
  | e :: q, _, ⟨h1, h2, h3, h4⟩ => by
    have := rl_cN ht q h4
    show (if e.1 = t then e.2 else 0) + rl_cnt t q = 0
    rw [if_neg (by omega), this]
    rfl
theorem rl_drop_ok {N x : Int} : ∀ (q : List (Int × Int)) {lo : Int}, rl_ok N lo q → rl_ok N lo (rl_drop x q) ∧ rl_ok N (x + 1) (rl_drop x q) ∧ rl_sum (rl_drop x q) = rl_W x q ∧ rl_sum (rl_drop x q) ≤ rl_sum q
  | [], _, _ => ⟨trivial, trivial, rfl, Int.le_refl 0⟩
  | e :: q, lo, h => by
    obtain ⟨h1, h2, h3, h4⟩ := h
    show rl_ok N lo (if e.1 ≤ x then rl_drop x q else e :: q) ∧ rl_ok N (x + 1) (if e.1 ≤ x then rl_drop x q else e :: q) ∧ rl_sum (if e.1 ≤ x then rl_drop x q else e :: q) = (if x < e.1 then e.2 else 0) + rl_W x q ∧ rl_sum (if e.1 ≤ x then rl_drop x q else e :: q) ≤ e.2 + rl_sum q
    by_cases h : e.1 ≤ x
    · obtain ⟨i1, i2, i3, i4⟩ := rl_drop_ok (x := x) q h4
      rw [if_pos h, if_neg (show ¬ x < e.1 by omega)]
      exact ⟨rl_ok_lo _ h1 i1, i2, by omega, by omega⟩
    · rw [if_neg h, if_pos (show x < e.1 by omega)]
      have := rl_Wall q (x := x) (show x < e.1 by omega) h4
      exact ⟨⟨h1, h2, h3, h4⟩, ⟨by omega, h2, h3, h4⟩, by rw [this]; rfl, Int.le_refl _⟩
theorem rl_drop_cnt {x t : Int} (ht : x < t) : ∀ (q : List (Int × Int)), rl_cnt t (rl_drop x q) = rl_cnt t q
  | [] => rfl
  | e :: q => by
    show rl_cnt t (if e.1 ≤ x then rl_drop x q else e :: q) = (if e.1 = t then e.2 else 0) + rl_cnt t q
    by_cases h : e.1 ≤ x
    · rw [if_pos h, if_neg (show ¬ e.1 = t by omega), rl_drop_cnt ht q]
      omega
    · rw [if_neg h]
      rfl
theorem rl_sum_add (t c : Int) : ∀ (q : List (Int × Int)), rl_sum (q ++ [(t, c)]) = rl_sum q + c
  | [] => by show c + 0 = 0 + c; omega
  | e :: q => by
    show e.2 + rl_sum (q ++ [(t, c)]) = e.2 + rl_sum q + c
    rw [rl_sum_add t c q]
    omega
theorem rl_cnt_add (t c t' : Int) : ∀ (q : List (Int × Int)), rl_cnt t' (q ++ [(t, c)]) = rl_cnt t' q + (if t = t' then c else 0)
  | [] => by show (if t = t' then c else 0) + 0 = 0 + (if t = t' then c else 0); omega
  | e :: q => by
    show (if e.1 = t' then e.2 else 0) + rl_cnt t' (q ++ [(t, c)]) = (if e.1 = t' then e.2 else 0) + rl_cnt t' q + (if t = t' then c else 0)
    rw [rl_cnt_add t c t' q]
    omega
theorem rl_ok_add {N c : Int} (hc : 1 ≤ c) : ∀ (q : List (Int × Int)) {lo : Int}, lo ≤ N → rl_ok N lo q → rl_ok N lo (q ++ [(N, c)])
  | [], _, h, _ => ⟨h, Int.le_refl N, hc, trivial⟩
  | _ :: q, _, _, ⟨h1, h2, h3, h4⟩ => ⟨h1, h2, h3, rl_ok_add hc q h2 h4⟩
/-! what the law logs: lanes -/
def rl_ls (f : Nat → Int) (S w : Int) : Nat → Int
  | 0 => 0
  | k + 1 => rl_ls f S w k + (if (k : Int) + w < S then f k else 0)
theorem rl_ls_congr {f g : Nat → Int} {S w : Int} : ∀ k : Nat, (∀ i : Nat, i < k → (i : Int) + w < S → f i = g i) → rl_ls f S w k = rl_ls g S w k
  | 0, _ => rfl
  | k + 1, h => by
    show rl_ls f S w k + (if (k : Int) + w < S then f k else 0) = rl_ls g S w k + (if (k : Int) + w < S then g k else 0)
    rw [rl_ls_congr k (fun i hi => h i (by omega))]
    by_cases hk : (k : Int) + w < S
    · rw [if_pos hk, if_pos hk, h k (by omega) hk]
    · rw [if_neg hk, if_neg hk]
theorem rl_ls_add (f g : Nat → Int) (S w : Int) : ∀ k, rl_ls (fun i => f i + g i) S w k = rl_ls f S w k + rl_ls g S w k
  | 0 => rfl
  | k + 1 => by
    show rl_ls (fun i => f i + g i) S w k + (if (k : Int) + w < S then f k + g k else 0) = rl_ls f S w k + (if (k : Int) + w < S then f k else 0) + (rl_ls g S w k + (if (k : Int) + w < S then g k else 0))
    rw [rl_ls_add f g S w k]
    by_cases hk : (k : Int) + w < S
    · rw [if_pos hk, if_pos hk, if_pos hk]; omega
    · rw [if_neg hk, if_neg hk, if_neg hk]; omega
theorem rl_ls_0 (S w : Int) : ∀ k, rl_ls (fun _ => 0) S w k = 0
  | 0 => rfl
  | k + 1 => by
    show rl_ls (fun _ => 0) S w k + (if (k : Int) + w < S then 0 else 0) = 0
    rw [rl_ls_0 S w k]
    by_cases hk : (k : Int) + w < S
    · rw [if_pos hk]; rfl
    · rw [if_neg hk]; rfl
theorem rl_ls_1 (S w N t c : Int) (ht : t ≤ N) : ∀ k : Nat, rl_ls (fun i => if t = N - (i : Int) then c else 0) S w k = if N - t < (k : Int) ∧ N - t + w < S then c else 0
  | 0 => by
    show (0 : Int) = _
    rw [if_neg (by omega)]
  | k + 1 => by
    show rl_ls (fun i => if t = N - (i : Int) then c else 0) S w k + (if (k : Int) + w < S then (if t = N - (k : Int) then c else 0) else 0) = _
    rw [rl_ls_1 S w N t c ht k]
    by_cases e : t = N - (k : Int)
    · rw [if_pos e, if_neg (show ¬ (N - t < (k : Int) ∧ N - t + w < S) by omega)]
      by_cases hk : (k : Int) + w < S
      · rw [if_pos hk, if_pos (show N - t < ((k + 1 : Nat) : Int) ∧ N - t + w < S by omega)]; omega
      · rw [if_neg hk, if_neg (show ¬ (N - t < ((k + 1 : Nat) : Int) ∧ N - t + w < S) by omega)]; rfl
    · rw [if_neg e]
      have z : (if (k : Int) + w < S then (0 : Int) else 0) = 0 := by
        by_cases hk : (k : Int) + w < S
        · rw [if_pos hk]
        · rw [if_neg hk]
      rw [z]
      by_cases h : N - t < (k : Int) ∧ N - t + w < S
      · rw [if_pos h, if_pos (show N - t < ((k + 1 : Nat) : Int) ∧ N - t + w < S by omega)]; omega
      · rw [if_neg h, if_neg (show ¬ (N - t < ((k + 1 : Nat) : Int) ∧ N - t + w < S) by omega)]; rfl
theorem rl_ls_W {N S w : Int} (hS : S ≤ 10) (hw : 0 ≤ w) : ∀ (q : List (Int × Int)) {lo : Int}, rl_ok N lo q → rl_ls (fun i => rl_cnt (N - (i : Int)) q) S w 10 = rl_W (N + w - S) q
  | [], _, _ => rl_ls_0 S w 10
  | e :: q, _, ⟨h1, h2, h3, h4⟩ => by
    have ih := rl_ls_W hS hw q h4
    have a := rl_ls_add (fun i => if e.1 = N - (i : Int) then e.2 else 0) (fun i => rl_cnt (N - (i : Int)) q) S w 10
    have b := rl_ls_1 S w N e.1 e.2 h2 10
    show rl_ls (fun i => (if e.1 = N - (i : Int) then e.2 else 0) + rl_cnt (N - (i : Int)) q) S w 10 = (if N + w - S < e.1 then e.2 else 0) + rl_W (N + w - S) q
    rw [a, b, ih]
    by_cases h : N + w - S < e.1
    · rw [if_pos h, if_pos (show N - e.1 < ((10 : Nat) : Int) ∧ N - e.1 + w < S by omega)]
    · rw [if_neg h, if_neg (show ¬ (N - e.1 < ((10 : Nat) : Int) ∧ N - e.1 + w < S) by omega)]
theorem rl_ls_b {f : Nat → Int} {S w : Int} (hf : ∀ i, 0 ≤ f i ∧ f i ≤ 31) : ∀ k : Nat, 0 ≤ rl_ls f S w k ∧ rl_ls f S w k ≤ 31 * (k : Int)
  | 0 => ⟨Int.le_refl 0, Int.le_refl 0⟩
  | k + 1 => by
    have ih := rl_ls_b (S := S) (w := w) hf k
    have hk := hf k
    show 0 ≤ rl_ls f S w k + (if (k : Int) + w < S then f k else 0) ∧ rl_ls f S w k + (if (k : Int) + w < S then f k else 0) ≤ 31 * ((k + 1 : Nat) : Int)
    by_cases h : (k : Int) + w < S
    · rw [if_pos h]; omega
    · rw [if_neg h]; omega
/-- a lane of the log, as an int -/
def rl_ln (n i : Nat) : Int := ((n / 32 ^ i % 32 : Nat) : Int)
/-- what the law's logged(log, S, w) answers -/
def rl_lg (n : Nat) (S w : Int) : Int := rl_ls (rl_ln n) S w 10
def rl_lanes (n : Nat) (S N : Int) (q : List (Int × Int)) : Prop := ∀ i : Nat, i < 10 → (i : Int) < S → rl_ln n i = rl_cnt (N - (i : Int)) q
theorem rl_ln_b (n i : Nat) : 0 ≤ rl_ln n i ∧ rl_ln n i ≤ 31 := by
  have := rl_lane_lt n i
  unfold rl_ln
  omega
theorem rl_lg_b (n : Nat) (S w : Int) : 0 ≤ rl_lg n S w ∧ rl_lg n S w ≤ 310 := rl_ls_b (rl_ln_b n) 10
theorem rl_lgW {n : Nat} {S N w lo : Int} {q : List (Int × Int)} (h : rl_lanes n S N q) (hS : S ≤ 10) (hw : 0 ≤ w) (hq : rl_ok N lo q) : rl_lg n S w = rl_W (N + w - S) q := by
  rw [← rl_ls_W hS hw q hq]
  exact rl_ls_congr 10 (fun i hi hc => h i hi (by omega))
theorem rl_lanes_tick {n : Nat} {S N lo : Int} {q : List (Int × Int)} (h : rl_lanes n S N q) (hq : rl_ok N lo q) : rl_lanes (n * 32 % 2 ^ 50) S (N + 1) q := by
  intro i hi hs
  cases i with
  | zero =>
    unfold rl_ln
    rw [rl_ls0, rl_cN (N := N) (by omega) q hq]
    rfl
  | succ i =>
    have := h i (by omega) (by omega)
    unfold rl_ln at this ⊢
    rw [rl_lsS n i (by omega), this, show N + 1 - ((i + 1 : Nat) : Int) = N - (i : Int) by omega]
theorem rl_lanes_drop {n : Nat} {S N : Int} {q : List (Int × Int)} (h : rl_lanes n S N q) : rl_lanes n S N (rl_drop (N - S) q) := by
  intro i hi hs
  rw [rl_drop_cnt (by omega) q]
  exact h i hi hs
theorem rl_lanes_m {n : Nat} {S N : Int} {q : List (Int × Int)} (h : rl_lanes n S N q) (hS : 1 ≤ S) : ((n % 32 : Nat) : Int) = rl_cnt N q := by
  have := h 0 (by omega) (by omega)
  unfold rl_ln at this
  rw [Nat.pow_zero, Nat.div_one, show N - ((0 : Nat) : Int) = N by omega] at this
  exact this
theorem rl_lanes_add {n c : Nat} {S N : Int} {q : List (Int × Int)} (h : rl_lanes n S N q) (hc : n % 32 + c < 32) : rl_lanes (n + c) S N (q ++ [(N, (c : Int))]) := by
  intro i hi hs
  have := h i hi hs
  rw [rl_cnt_add, ← this]
  unfold rl_ln
  cases i with
  | zero =>
    rw [rl_lp0 hc, if_pos (by omega)]
    omega
  | succ i =>
    rw [rl_lpS i hc, if_neg (by omega)]
    omega
/-! the wait for a log -/
def rl_lw (S N : Int) : List (Int × Int) → Int → Int → Int
  | [], _, wt => wt
  | e :: q, ov, wt => if ov ≤ 0 then wt else rl_lw S N q (ov - e.2) (e.1 + S - N)
theorem rl_lw_0 {S N : Int} : ∀ (q : List (Int × Int)) {ov wt : Int}, ov ≤ 0 → rl_lw S N q ov wt = wt
  | [], _, _, _ => rfl
  | _ :: _, _, _, h => if_pos h
theorem rl_lw_ok {S N : Int} : ∀ (q : List (Int × Int)) {lo ov wt : Int}, rl_ok N lo q → 0 < ov → ov ≤ rl_sum q →
    lo + S - N ≤ rl_lw S N q ov wt ∧ rl_lw S N q ov wt ≤ S ∧ (∀ w, w < rl_lw S N q ov wt → rl_sum q - ov < rl_W (N + w - S) q) ∧ rl_W (N + rl_lw S N q ov wt - S) q ≤ rl_sum q - ov
  | [], _, _, _, _, h0, h1 => by
    have h1' : _ ≤ (0 : Int) := h1
    omega
  | e :: q, lo, ov, wt, ⟨h1, h2, h3, h4⟩, h0, hs => by
    have hs' : ov ≤ e.2 + rl_sum q := hs
    have e1 : rl_lw S N (e :: q) ov wt = rl_lw S N q (ov - e.2) (e.1 + S - N) := if_neg (by omega)
    have e2 : rl_sum (e :: q) = e.2 + rl_sum q := rfl
    have e3 : ∀ x, rl_W x (e :: q) = (if x < e.1 then e.2 else 0) + rl_W x q := fun _ => rfl
    rw [e1, e2]
    by_cases hc : ov - e.2 ≤ 0
    · rw [rl_lw_0 q hc]
      refine ⟨by omega, by omega, fun w hw => ?_, ?_⟩
      · rw [e3, if_pos (by omega), rl_Wall q (lo := e.1) (by omega) h4]
        omega
      · rw [e3, if_neg (by omega)]
        have := (rl_Wb (N + (e.1 + S - N) - S) q h4).2
        omega
    · obtain ⟨i1, i2, i3, i4⟩ := rl_lw_ok q (lo := e.1) (ov := ov - e.2) (wt := e.1 + S - N) h4 (by omega) (by omega)
      refine ⟨by omega, i2, fun w hw => ?_, ?_⟩
      · have a := i3 w hw
        rw [e3]
        by_cases h : N + w - S < e.1
        · rw [if_pos h]; omega
        · rw [if_neg h]; omega
      · rw [e3, if_neg (by omega)]
        omega
/-- the least wait w (from 0 to 10) after which a cost c finds room -/
def rl_least (n : Nat) (S B c r : Int) : Prop := 0 ≤ r ∧ r ≤ 10 ∧ rl_lg n S r + c ≤ B ∧ ∀ w, 0 ≤ w → w < r → B < rl_lg n S w + c
theorem rl_least_1 {n : Nat} {S B N c : Int} {q : List (Int × Int)} (hl : rl_lanes n S N q) (hq : rl_ok N (N - S + 1) q) (hS : S ≤ 10) (hc : c ≤ B) (ho : 0 < rl_sum q + c - B) : rl_least n S B c (rl_lw S N q (rl_sum q + c - B) 0) := by
  obtain ⟨i1, i2, i3, i4⟩ := rl_lw_ok q (S := S) (wt := 0) hq ho (by omega)
  refine ⟨by omega, by omega, ?_, fun w h0 hw => ?_⟩
  · rw [rl_lgW hl hS (by omega) hq]
    omega
  · have := i3 w hw
    rw [rl_lgW hl hS h0 hq]
    omega
theorem rl_least_u {n : Nat} {S B c r r' : Int} (h : rl_least n S B c r) (h' : rl_least n S B c r') : r = r' := by
  obtain ⟨a1, a2, a3, a4⟩ := h
  obtain ⟨b1, b2, b3, b4⟩ := h'
  rcases Int.lt_trichotomy r r' with x | x | x
  · have := b4 r a1 x
    omega
  · exact x
  · have := a4 r' b1 x
    omega
/-! buckets and spacers -/
theorem rl_tT {R B T T0 N F : Int} (hR : 0 ≤ R) (h : T = min B (T0 + R * (N - F))) : min B (T + R) = min B (T0 + R * (N + 1 - F)) := by
  have e : R * (N + 1 - F) = R * (N - F) + R := by
    rw [show N + 1 - F = (N - F) + 1 by omega, Int.mul_add, Int.mul_one]
  rw [e, h]
  omega
theorem rl_mulb {R x : Int} {r X : Int} (h0 : 0 ≤ R) (hr : R ≤ r) (hx0 : 0 ≤ x) (hx : x ≤ X) (hX : 0 ≤ X) : 0 ≤ R * x ∧ R * x ≤ r * X :=
  ⟨Int.mul_nonneg h0 hx0, Int.mul_le_mul hr hx hx0 (by omega)⟩
end
section
/-! the invariant: the state of the object against the law's own numbers -/
def rl_ring (a13 a14 : Nat → Int32) : Nat → List (Int × Int) → Prop
  | _, [] => True
  | h, e :: q => a13 (32 + h % 32) = rl_z e.1 ∧ a14 (32 + h % 32) = rl_z e.2 ∧ rl_ring a13 a14 (h + 1) q
def rl_C (R B S : Int) (a1 a2 a3 a4 a11 : Nat → Int32) : Prop :=
  a1 0 = 0 ∧ a1 1 = 1 ∧ a1 2 = 2 ∧ a2 0 = rl_z R ∧ a3 0 = rl_z B ∧ a3 1 = rl_z B ∧ a3 2 = rl_z B ∧ a4 1 = rl_z S ∧ a4 2 = rl_z S ∧ a11 0 = 0 ∧ a11 2 = 0
def rl_T (b : Bool) (R B N T : Int) (a7 a8 : Nat → Int32) : Prop :=
  ∃ T0 F : Int, a7 0 = rl_z T0 ∧ a8 0 = rl_z F ∧ 0 ≤ T0 ∧ T0 ≤ B ∧ 0 ≤ F ∧ F ≤ N ∧ T = min B (T0 + R * (N - F)) ∧ (b = true → F = N)
def rl_Q (b : Bool) (B S N : Int) (n : Nat) (a10 a11 a12 a13 a14 : Nat → Int32) : Prop :=
  ∃ (h : Nat) (q : List (Int × Int)), a10 1 = nI (h % 32) ∧ a11 1 = nI q.length ∧ a12 1 = rl_z (rl_sum q) ∧ rl_ring a13 a14 h q ∧ rl_ok N 0 q ∧ rl_sum q ≤ B ∧ rl_lanes n S N q ∧ (b = true → rl_ok N (N - S + 1) q)
def rl_D (N A : Int) (a9 : Nat → Int32) : Prop := ∃ D : Int, a9 2 = rl_z D ∧ -1000000 ≤ D ∧ A = max 0 (D - N)
def rl_P (R B S N T : Int) (n : Nat) (A : Int) : Prop := (1 ≤ R ∧ R ≤ 5) ∧ (1 ≤ B ∧ B ≤ 30) ∧ (1 ≤ S ∧ S ≤ 10) ∧ (0 ≤ N ∧ N ≤ 5000) ∧ (0 ≤ T ∧ T ≤ B) ∧ n < 2 ^ 50 ∧ (0 ≤ A ∧ A ≤ B * S)
def rl_I (b0 b1 : Bool) (R B S N T : Int) (n : Nat) (A : Int) (g d : Int32) (u : St1) : Prop := match u with
  | (af, a1, a2, a3, a4, a5, a6, a7, a8, a9, a10, a11, a12, a13, a14) => rl_P R B S N T n A ∧ af = rl_z N ∧ rl_C R B S a1 a2 a3 a4 a11 ∧ rl_T b0 R B N T a7 a8 ∧ rl_Q b1 B S N n a10 a11 a12 a13 a14 ∧ rl_D N A a9 ∧ a5 0 = g ∧ a6 2 = d
theorem rl_k0 : (0 : Int32).toNatClampNeg = 0 := by decide
theorem rl_k1 : (1 : Int32).toNatClampNeg = 1 := by decide
theorem rl_k2 : (2 : Int32).toNatClampNeg = 2 := by decide
theorem rl_v0 : vp_in 0 4 := vp_in_nI (n := 0) (by decide) (by decide)
theorem rl_v1 : vp_in 1 4 := vp_in_nI (n := 1) (by decide) (by decide)
theorem rl_v2 : vp_in 2 4 := vp_in_nI (n := 2) (by decide) (by decide)
theorem rl_ix (h : Nat) {x : Int32} (hx : x = nI (h % 32)) : (1 : Int32) * 32 + x = nI (32 + h % 32) := by
  have e : (1 : Int32) * 32 = nI 32 := by decide
  rw [hx, e, nI_add]
theorem rl_hd (h k : Nat) {x : Int32} (hx : x = nI (h % 32)) (hk : k < 1000) : (x + nI k) &&& 31 = nI ((h + k) % 32) := by
  rw [hx, nI_add, pk_andN (by omega) 5 (by decide), show (h % 32 + k) % 2 ^ 5 = (h + k) % 32 by omega]
theorem rl_BS {R B S N T A : Int} {n : Nat} (h : rl_P R B S N T n A) : 1 ≤ B * S ∧ B * S ≤ 300 := by
  obtain ⟨_, h1, h2, _⟩ := h
  have a := rl_mulb (R := B) (x := S) (r := 30) (X := 10) (by omega) (by omega) (by omega) (by omega) (by omega)
  have b : 1 * 1 ≤ B * S := Int.mul_le_mul (by omega) (by omega) (by omega) (by omega)
  omega
theorem rl_RN {R B S N T A F : Int} {n : Nat} (h : rl_P R B S N T n A) (h0 : 0 ≤ F) (h1 : F ≤ N) : 0 ≤ R * (N - F) ∧ R * (N - F) ≤ 25000 := by
  obtain ⟨h1, _, _, h2, _⟩ := h
  have a := rl_mulb (R := R) (x := N - F) (r := 5) (X := 5000) (by omega) (by omega) (by omega) (by omega) (by omega)
  omega
theorem rl_T_in {b : Bool} {R B N T : Int} {a7 a8 : Nat → Int32} (h7 : a7 0 = rl_z T) (h8 : a8 0 = rl_z N) (hT : 0 ≤ T ∧ T ≤ B) (hN : 0 ≤ N) : rl_T b R B N T a7 a8 := by
  refine ⟨T, N, h7, h8, hT.1, hT.2, hN, Int.le_refl N, ?_, fun _ => rfl⟩
  rw [Int.sub_self, Int.mul_zero]
  omega
theorem rl_T_out {R B N T : Int} {a7 a8 : Nat → Int32} (h : rl_T true R B N T a7 a8) : a7 0 = rl_z T ∧ a8 0 = rl_z N := by
  obtain ⟨T0, F, h7, h8, h1, h2, h3, h4, h5, h6⟩ := h
  have e := h6 rfl
  subst e
  rw [Int.sub_self, Int.mul_zero] at h5
  have e : T = T0 := by omega
  subst e
  exact ⟨h7, h8⟩
theorem rl_T_keep {b : Bool} {R B N T : Int} {a7 a8 c7 c8 : Nat → Int32} (h : rl_T b R B N T a7 a8) (h7 : c7 0 = a7 0) (h8 : c8 0 = a8 0) : rl_T b R B N T c7 c8 := by
  obtain ⟨T0, F, e7, e8, h⟩ := h
  exact ⟨T0, F, h7.trans e7, h8.trans e8, h⟩
theorem rl_T_f {b : Bool} {R B N T : Int} {a7 a8 : Nat → Int32} (h : rl_T b R B N T a7 a8) : rl_T false R B N T a7 a8 := by
  obtain ⟨T0, F, e7, e8, h1, h2, h3, h4, h5, _⟩ := h
  exact ⟨T0, F, e7, e8, h1, h2, h3, h4, h5, fun z => absurd z (by decide)⟩
theorem rl_Q_f {b : Bool} {B S N : Int} {n : Nat} {a10 a11 a12 a13 a14 : Nat → Int32} (h : rl_Q b B S N n a10 a11 a12 a13 a14) : rl_Q false B S N n a10 a11 a12 a13 a14 := by
  obtain ⟨h, q, h1, h2, h3, h4, h5, h6, h7, _⟩ := h
  exact ⟨h, q, h1, h2, h3, h4, h5, h6, h7, fun z => absurd z (by decide)⟩
theorem rl_I_f {b0 b1 : Bool} {R B S N T A : Int} {n : Nat} {g d : Int32} {u : St1} (h : rl_I b0 b1 R B S N T n A g d u) : rl_I false false R B S N T n A g d u := by
  obtain ⟨af, a1, a2, a3, a4, a5, a6, a7, a8, a9, a10, a11, a12, a13, a14⟩ := u
  obtain ⟨hP, hf, hC, hT, hQ, hD, hg, hd⟩ := h
  exact ⟨hP, hf, hC, rl_T_f hT, rl_Q_f hQ, hD, hg, hd⟩
theorem rl_I_P {b0 b1 : Bool} {R B S N T A : Int} {n : Nat} {g d : Int32} {u : St1} (h : rl_I b0 b1 R B S N T n A g d u) : rl_P R B S N T n A := by
  obtain ⟨af, a1, a2, a3, a4, a5, a6, a7, a8, a9, a10, a11, a12, a13, a14⟩ := u
  exact h.1
/-- one unit of time passes -/
theorem rl_I_tick {R B S N T A : Int} {n : Nat} {g d : Int32} {af : Int32} {a1 a2 a3 a4 a5 a6 a7 a8 a9 a10 a11 a12 a13 a14 : Nat → Int32} (h : rl_I false false R B S N T n A g d (af, a1, a2, a3, a4, a5, a6, a7, a8, a9, a10, a11, a12, a13, a14)) (hN : N + 1 ≤ 5000) : rl_I false false R B S (N + 1) (min B (T + R)) (n * 32 % 2 ^ 50) (max 0 (A - 1)) g d (rl_z (N + 1), a1, a2, a3, a4, a5, a6, a7, a8, a9, a10, a11, a12, a13, a14) := by
  obtain ⟨hP, hf, hC, hT, hQ, hD, hg, hd⟩ := h
  obtain ⟨p1, p2, p3, p4, p5, p6, p7⟩ := hP
  obtain ⟨T0, F, t1, t2, t3, t4, t5, t6, t7, _⟩ := hT
  obtain ⟨h, q, q1, q2, q3, q4, q5, q6, q7, _⟩ := hQ
  obtain ⟨D, d1, d2, d3⟩ := hD
  refine ⟨⟨p1, p2, p3, ⟨by omega, hN⟩, ⟨by omega, by omega⟩, Nat.mod_lt _ (by decide), ⟨by omega, by omega⟩⟩, rfl, hC, ?_, ?_, ?_, hg, hd⟩
  · exact ⟨T0, F, t1, t2, t3, t4, t5, by omega, rl_tT (by omega) t7, fun z => absurd z (by decide)⟩
  · exact ⟨h, q, q1, q2, q3, q4, rl_ok_N (by omega) q q5, q6, rl_lanes_tick q7 q5, fun z => absurd z (by decide)⟩
  · exact ⟨D, d1, d2, by omega⟩
end
section
/-! catchUp -/
theorem rl_c64_0 {post : St1 → Prop} {m : Int32} {k : Nat} {af : Int32} {a1 a2 a3 a4 a5 a6 a7 a8 a9 a10 a11 a12 a13 a14 : Nat → Int32} (hm : vp_in m 4) (hk : m.toNatClampNeg = k) (h : a11 k = 0) (hp : post (af, a1, a2, a3, a4, a5, a6, a7, a8, a9, a10, a11, a12, a13, a14)) : ∃ n, wX_catchUp_64 post m af n 0 a1 a2 a3 a4 a5 a6 a7 a8 a9 a10 a11 a12 a13 a14 := by
  refine ⟨0 + 1, br_f (by decide) ⟨hm, br_t ?_ hp⟩⟩
  rw [hk, h]
  decide
theorem rl_c64_1 {post : St1 → Prop} {N S : Int} {a1 a2 a3 a4 a5 a6 a7 a8 a9 a13 a14 : Nat → Int32} (h4 : a4 1 = rl_z S) (hN : 0 ≤ N ∧ N ≤ 5000) (hS : 1 ≤ S ∧ S ≤ 10) :
    ∀ (q : List (Int × Int)) (lo : Int) (i h n : Nat) (a10 a11 a12 : Nat → Int32), rl_ring a13 a14 h q → rl_ok N lo q → 0 ≤ lo → a10 1 = nI (h % 32) → a11 1 = nI q.length → a12 1 = rl_z (rl_sum q) → i + q.length ≤ 31 → q.length < n →
      (∀ (h' : Nat) (c10 c11 c12 : Nat → Int32), rl_ring a13 a14 h' (rl_drop (N - S) q) → c10 1 = nI (h' % 32) → c11 1 = nI (rl_drop (N - S) q).length → c12 1 = rl_z (rl_sum (rl_drop (N - S) q)) → c11 0 = a11 0 → c11 2 = a11 2 → post (rl_z N, a1, a2, a3, a4, a5, a6, a7, a8, a9, c10, c11, c12, a13, a14)) →
      wX_catchUp_64 post 1 (rl_z N) n (nI i) a1 a2 a3 a4 a5 a6 a7 a8 a9 a10 a11 a12 a13 a14 := by
  intro q
  induction q with
  | nil =>
    intro lo i h n a10 a11 a12 hr hok hlo h10 h11 h12 hi hn hp
    have hl : ([] : List (Int × Int)).length = 0 := rfl
    rw [hl] at h11 hi hn
    obtain ⟨n, rfl⟩ : ∃ n', n = n' + 1 := ⟨n - 1, by omega⟩
    refine br_f (nI_ge (b := 32) (by omega) (by decide)) ⟨rl_v1, br_t ?_ (hp h a10 a11 a12 hr h10 h11 h12 rfl rfl)⟩
    rw [rl_k1, h11]
    decide
  | cons e q ih =>
    intro lo i h n a10 a11 a12 hr hok hlo h10 h11 h12 hi hn hp
    obtain ⟨r1, r2, r3⟩ := hr
    obtain ⟨k1, k2, k3, k4⟩ := hok
    have hl : (e :: q).length = q.length + 1 := rfl
    rw [hl] at hi hn
    have h11' : a11 1 = nI (q.length + 1) := h11
    obtain ⟨n, rfl⟩ : ∃ n', n = n' + 1 := ⟨n - 1, by omega⟩
    have E : (1 : Int32) * 32 + a10 (1 : Int32).toNatClampNeg = nI (32 + h % 32) := by
      rw [rl_k1]
      exact rl_ix h h10
    have hin : vp_in ((1 : Int32) * 32 + a10 (1 : Int32).toNatClampNeg) 128 := by
      rw [E]
      exact vp_in_nI (by omega) (by decide)
    have hcl : ((1 : Int32) * 32 + a10 (1 : Int32).toNatClampNeg).toNatClampNeg = 32 + h % 32 := by
      rw [E]
      exact nI_clamp (by omega)
    refine br_f (nI_ge (b := 32) (by omega) (by decide)) ⟨rl_v1, br_f ?_ ⟨rl_v1, hin, rl_v1, ?_⟩⟩
    · rw [rl_k1, h11']
      exact nI_nle (by omega) (by omega)
    · refine rl_blt (N - S) e.1 (fun hd => ?_) (fun hd => ?_) (by rw [rl_k1, h4, rl_sub]) (by rw [hcl, r1])
      · have ed : rl_drop (N - S) (e :: q) = e :: q := if_neg (by omega)
        exact hp h a10 a11 a12 (by rw [ed]; exact ⟨r1, r2, r3⟩) h10 (by rw [ed]; exact h11) (by rw [ed]; exact h12) rfl rfl
      · have ed : rl_drop (N - S) (e :: q) = rl_drop (N - S) q := if_pos hd
        rw [ed] at hp
        refine ⟨rl_v1, rl_v1, hin, rl_v1, fun c12 e12 => ⟨rl_v1, rl_v1, fun c10 e10 => ⟨rl_v1, rl_v1, fun c11 e11 => fun x3 e3 => ?_⟩⟩⟩
        rw [hcl, rl_k1] at e12
        rw [rl_k1] at e10 e11
        rw [e3, nI_1]
        refine ih e.1 (i + 1) (h + 1) n c10 c11 c12 r3 k4 (by omega) ?_ ?_ ?_ (by omega) (by omega) (fun h' b10 b11 b12 s1 s2 s3 s4 s5 s6 => hp h' b10 b11 b12 s1 s2 s3 s4 (s5.trans ?_) (s6.trans ?_))
        · rw [e10, pk_us]
          exact rl_hd h 1 h10 (by decide)
        · rw [e11, pk_us, h11']
          exact nI_pred _
        · rw [e12, pk_us, h12, r2, rl_sub]
          have hs : rl_sum (e :: q) = e.2 + rl_sum q := rfl
          rw [hs, show e.2 + rl_sum q - e.2 = rl_sum q by omega]
        · rw [e11]
          exact pk_un (by decide)
        · rw [e11]
          exact pk_un (by decide)
/-- what catchUp stores in tokens: only meter 0's matters -/
theorem rl_cu {post : St1 → Prop} {m : Int32} {af : Int32} {a1 a2 a3 a4 a5 a6 a7 a8 a9 a10 a11 a12 a13 a14 : Nat → Int32} (hm : vp_in m 4)
    (H : ∀ z c7 c8, (z = a3 m.toNatClampNeg ∨ z = a7 m.toNatClampNeg + a2 m.toNatClampNeg * (af - a8 m.toNatClampNeg)) → (a3 m.toNatClampNeg ≤ a7 m.toNatClampNeg + a2 m.toNatClampNeg * (af - a8 m.toNatClampNeg) → z = a3 m.toNatClampNeg) → (¬ a3 m.toNatClampNeg ≤ a7 m.toNatClampNeg + a2 m.toNatClampNeg * (af - a8 m.toNatClampNeg) → z = a7 m.toNatClampNeg + a2 m.toNatClampNeg * (af - a8 m.toNatClampNeg)) →
      c7 = upd a7 m.toNatClampNeg z → c8 = upd a8 m.toNatClampNeg af → ∃ n, wX_catchUp_64 post m af n 0 a1 a2 a3 a4 a5 a6 c7 c8 a9 a10 a11 a12 a13 a14) : wpX_catchUp post (af, a1, a2, a3, a4, a5, a6, a7, a8, a9, a10, a11, a12, a13, a14) m := by
  refine ⟨hm, hm, hm, fun x2 e2 => ⟨hm, ?_⟩⟩
  subst e2
  refine br_c (fun hc => ⟨hm, ?_⟩) (fun hc => ?_)
  · exact ⟨hm, fun c7 e7 => ⟨hm, fun c8 e8 => H _ c7 c8 (Or.inl rfl) (fun _ => rfl) (fun h => absurd hc h) e7 e8⟩⟩
  · exact ⟨hm, fun c7 e7 => ⟨hm, fun c8 e8 => H _ c7 c8 (Or.inr rfl) (fun h => absurd h hc) (fun _ => rfl) e7 e8⟩⟩
theorem rl_cu0 {b0 b1 : Bool} {R B S N T A : Int} {n : Nat} {g d : Int32} {u : St1} {post : St1 → Prop} (h : rl_I b0 b1 R B S N T n A g d u) (hp : ∀ u', rl_I true b1 R B S N T n A g d u' → post u') : wpX_catchUp post u 0 := by
  obtain ⟨af, a1, a2, a3, a4, a5, a6, a7, a8, a9, a10, a11, a12, a13, a14⟩ := u
  obtain ⟨hP, hf, hC, hT, hQ, hD, hg, hd⟩ := h
  have hC' := hC
  obtain ⟨c1, c2, c3, c4, c5, c6, c7, c8, c9, c10, c11⟩ := hC'
  obtain ⟨T0, F, t1, t2, t3, t4, t5, t6, t7, _⟩ := hT
  have hRN := rl_RN hP t5 t6
  have hP' := hP
  obtain ⟨p1, p2, p3, p4, p5, p6, p7⟩ := hP'
  refine rl_cu rl_v0 (fun z d7 d8 _ z1 z2 e7 e8 => ?_)
  rw [rl_k0] at z1 z2 e7 e8
  rw [c5, t1, c4, hf, t2, rl_sub, rl_mul, rl_add, rl_leI (by unfold rl_r; omega) (by unfold rl_r; omega)] at z1 z2
  have hz : z = rl_z T := by
    by_cases hc : B ≤ T0 + R * (N - F)
    · rw [z1 hc, show T = B by omega]
    · rw [z2 hc, show T = T0 + R * (N - F) by omega]
  refine rl_c64_0 rl_v0 rl_k0 c10 (hp _ ⟨hP, hf, hC, ?_, hQ, hD, hg, hd⟩)
  exact rl_T_in (by rw [e7, pk_us, hz]) (by rw [e8, pk_us, hf]) p5 p4.1
theorem rl_cu2 {b0 b1 : Bool} {R B S N T A : Int} {n : Nat} {g d : Int32} {u : St1} {post : St1 → Prop} (h : rl_I b0 b1 R B S N T n A g d u) (hp : ∀ u', rl_I b0 b1 R B S N T n A g d u' → post u') : wpX_catchUp post u 2 := by
  obtain ⟨af, a1, a2, a3, a4, a5, a6, a7, a8, a9, a10, a11, a12, a13, a14⟩ := u
  obtain ⟨hP, hf, hC, hT, hQ, hD, hg, hd⟩ := h
  have hC' := hC
  obtain ⟨c1, c2, c3, c4, c5, c6, c7, c8, c9, c10, c11⟩ := hC'
  refine rl_cu rl_v2 (fun z d7 d8 _ z1 z2 e7 e8 => ?_)
  rw [rl_k2] at e7 e8
  refine rl_c64_0 rl_v2 rl_k2 c11 (hp _ ⟨hP, hf, hC, ?_, hQ, hD, hg, hd⟩)
  exact rl_T_keep hT (by rw [e7]; exact pk_un (by decide)) (by rw [e8]; exact pk_un (by decide))
theorem rl_cu1 {b0 b1 : Bool} {R B S N T A : Int} {n : Nat} {g d : Int32} {u : St1} {post : St1 → Prop} (h : rl_I b0 b1 R B S N T n A g d u) (hp : ∀ u', rl_I b0 true R B S N T n A g d u' → post u') : wpX_catchUp post u 1 := by
  obtain ⟨af, a1, a2, a3, a4, a5, a6, a7, a8, a9, a10, a11, a12, a13, a14⟩ := u
  obtain ⟨hP, hf, hC, hT, hQ, hD, hg, hd⟩ := h
  obtain ⟨c1, c2, c3, c4, c5, c6, c7, c8, c9, c10, c11⟩ := hC
  have hP' := hP
  obtain ⟨p1, p2, p3, p4, p5, p6, p7⟩ := hP'
  obtain ⟨h, q, q1, q2, q3, q4, q5, q6, q7, _⟩ := hQ
  have hlen := rl_len q q5
  subst hf
  refine rl_cu rl_v1 (fun z d7 d8 _ z1 z2 e7 e8 => ⟨q.length + 1, ?_⟩)
  rw [rl_k1] at e7 e8
  refine rl_c64_1 c8 p4 p3 q 0 0 h (q.length + 1) a10 a11 a12 q4 q5 (by omega) q1 q2 q3 (by omega) (by omega) (fun h' b10 b11 b12 s1 s2 s3 s4 s5 s6 => hp _ ⟨hP, rfl, ?_, ?_, ?_, hD, hg, hd⟩)
  · exact ⟨c1, c2, c3, c4, c5, c6, c7, c8, c9, s5.trans c10, s6.trans c11⟩
  · exact rl_T_keep hT (by rw [e7]; exact pk_un (by decide)) (by rw [e8]; exact pk_un (by decide))
  · obtain ⟨o1, o2, o3, o4⟩ := rl_drop_ok (x := N - S) q q5
    exact ⟨h', rl_drop (N - S) q, s2, s3, s4, s1, o1, by omega, rl_lanes_drop q7, fun _ => o2⟩
end
section
/-! base, roomOf, room, granted, denied -/
theorem rl_bad {post : Int32 → Prop} {u : St2} {p : Int32} (h1 : ¬ p < 0) (h2 : p < 4) (h : post 0) : wpX_bad post u p := br_f h1 (br_t h2 h)
theorem rl_bc {post : Int32 → Prop} {u : St2} {c : Nat} (h1 : 1 ≤ c) (h2 : c ≤ 20) (h : post 0) : wpX_badCost post u (nI c) :=
  br_f (nI_nlt (b := 1) h1 (by omega)) (br_t (nI_le (b := 20) h2 (by decide)) h)
theorem rl_base {b0 b1 : Bool} {R B S N T A : Int} {n : Nat} {g d : Int32} {u : St1} {post : Int32 → Prop} (h : rl_I b0 b1 R B S N T n A g d u) (hp : post (rl_z (N + A))) : wpX_base post u 2 := by
  obtain ⟨af, a1, a2, a3, a4, a5, a6, a7, a8, a9, a10, a11, a12, a13, a14⟩ := u
  obtain ⟨hP, hf, hC, hT, hQ, hD, hg, hd⟩ := h
  have hBS := rl_BS hP
  obtain ⟨p1, p2, p3, p4, p5, p6, p7⟩ := hP
  obtain ⟨D, d1, d2, d3⟩ := hD
  refine ⟨rl_v2, rl_ble D N (fun hc => ?_) (fun hc => ⟨rl_v2, ?_⟩) (by rw [rl_k2, d1]) hf⟩
  · rw [hf]
    rw [show N + A = N by omega] at hp
    exact hp
  · rw [rl_k2, d1]
    rw [show N + A = D by omega] at hp
    exact hp
theorem rl_ro0 {b0 b1 : Bool} {R B S N T A : Int} {n : Nat} {g d : Int32} {u : St1} {post : Int32 → St1 → Prop} (h : rl_I b0 b1 R B S N T n A g d u) (hp : ∀ u', rl_I true b1 R B S N T n A g d u' → post (rl_z T) u') : wpX_roomOf post u 0 := by
  obtain ⟨af, a1, a2, a3, a4, a5, a6, a7, a8, a9, a10, a11, a12, a13, a14⟩ := u
  unfold wpX_roomOf
  refine rl_cu0 h (fun u' h' => ?_)
  obtain ⟨cf, c1, c2, c3, c4, c5, c6, c7, c8, c9, c10, c11, c12, c13, c14⟩ := u'
  have hp' := hp _ h'
  obtain ⟨hP, hf, hC, hT, hQ, hD, hg, hd⟩ := h'
  have e7 := (rl_T_out hT).1
  refine ⟨rl_v0, br_t ?_ ⟨rl_v0, ?_⟩⟩
  · rw [rl_k0]
    exact hC.1
  · rw [rl_k0, e7]
    exact hp'
theorem rl_ro1 {b0 b1 : Bool} {R B S N T A : Int} {n : Nat} {g d : Int32} {u : St1} {post : Int32 → St1 → Prop} (h : rl_I b0 b1 R B S N T n A g d u) (hp : ∀ u', rl_I b0 true R B S N T n A g d u' → post (rl_z (B - rl_lg n S 0)) u') : wpX_roomOf post u 1 := by
  obtain ⟨af, a1, a2, a3, a4, a5, a6, a7, a8, a9, a10, a11, a12, a13, a14⟩ := u
  unfold wpX_roomOf
  refine rl_cu1 h (fun u' h' => ?_)
  obtain ⟨cf, c1, c2, c3, c4, c5, c6, c7, c8, c9, c10, c11, c12, c13, c14⟩ := u'
  have hp' := hp _ h'
  obtain ⟨hP, hf, hC, hT, hQ, hD, hg, hd⟩ := h'
  obtain ⟨p1, p2, p3, p4, p5, p6, p7⟩ := hP
  obtain ⟨h, q, q1, q2, q3, q4, q5, q6, q7, q8⟩ := hQ
  have ew : rl_lg n S 0 = rl_sum q := by
    rw [rl_lgW q7 p3.2 (Int.le_refl 0) q5]
    exact rl_Wall q (by omega) (q8 rfl)
  refine ⟨rl_v1, br_f ?_ ⟨rl_v1, br_t ?_ ⟨rl_v1, rl_v1, ?_⟩⟩⟩
  · rw [rl_k1, hC.2.1]
    decide
  · rw [rl_k1]
    exact hC.2.1
  · rw [rl_k1, q3, hC.2.2.2.2.2.1, rl_sub, ← ew]
    exact hp'
theorem rl_ro2 {b0 b1 : Bool} {R B S N T A : Int} {n : Nat} {g d : Int32} {u : St1} {post : Int32 → St1 → Prop} (h : rl_I b0 b1 R B S N T n A g d u) (hp : ∀ u', rl_I b0 b1 R B S N T n A g d u' → post (rl_z ((B * S - A) / S)) u') : wpX_roomOf post u 2 := by
  obtain ⟨af, a1, a2, a3, a4, a5, a6, a7, a8, a9, a10, a11, a12, a13, a14⟩ := u
  unfold wpX_roomOf
  refine rl_cu2 h (fun u' h' => ?_)
  obtain ⟨cf, c1, c2, c3, c4, c5, c6, c7, c8, c9, c10, c11, c12, c13, c14⟩ := u'
  have hp' := hp _ h'
  have h2 := h'
  obtain ⟨hP, hf, hC, hT, hQ, hD, hg, hd⟩ := h2
  have hBS := rl_BS hP
  obtain ⟨p1, p2, p3, p4, p5, p6, p7⟩ := hP
  have k3 : c3 2 = rl_z B := hC.2.2.2.2.2.2.1
  have k4 : c4 2 = rl_z S := hC.2.2.2.2.2.2.2.2.1
  refine ⟨rl_v2, br_f ?_ ⟨rl_v2, br_f ?_ (rl_base h' ?_)⟩⟩
  · rw [rl_k2, hC.2.2.1]
    decide
  · rw [rl_k2, hC.2.2.1]
    decide
  · refine nm_r (e' := rl_z A) (by rw [hf, rl_sub, show N + A - N = A by omega]) ⟨rl_v2, rl_v2, nm_r (e' := rl_z (B * S - A)) (by rw [rl_k2, k3, k4, rl_mul, rl_sub]) ?_⟩
    refine rl_ble 0 (B * S - A) (fun _ => ⟨rl_v2, ?_⟩) (fun hc => absurd hc (by omega))
    refine rl_ble S 0 (fun hc => absurd hc (by omega)) (fun _ => ⟨rl_v2, ?_, ?_⟩) (by rw [rl_k2, k4])
    · rw [rl_k2, k4]
      intro hz
      have hz' : rl_z S = rl_z 0 := hz
      rw [rl_eqI (by unfold rl_r; omega) (by unfold rl_r; omega)] at hz'
      omega
    · rw [rl_k2, k4, rl_div (by omega) (by omega) (by omega) (by omega)]
      exact hp'
/-- at most 20 -/
def rl_cl (v : Int) : Int := if v ≤ 20 then v else 20
theorem rl_rm {post : Int32 → St1 → Prop} {v : Int} {u : St1} (hv : 0 ≤ v) (hv' : v < 2147483648) (hp : post (rl_z (rl_cl v)) u) : (0 ≤ rl_z v → ((rl_z v ≤ 20 → post (rl_z v) u) ∧ (¬ rl_z v ≤ 20 → post 20 u))) ∧ (¬ 0 ≤ rl_z v → post 0 u) := by
  refine rl_ble 0 v (fun _ => rl_ble v 20 (fun hc => ?_) (fun hc => ?_)) (fun hc => absurd hc (by omega))
  · unfold rl_cl at hp
    rw [if_pos hc] at hp
    exact hp
  · unfold rl_cl at hp
    rw [if_neg (by omega)] at hp
    exact hp
theorem rl_room0 {b0 b1 : Bool} {R B S N T A : Int} {n : Nat} {g d : Int32} {u : St1} {post : Int32 → St1 → Prop} (h : rl_I b0 b1 R B S N T n A g d u) (hp : ∀ u', rl_I true b1 R B S N T n A g d u' → post (rl_z (rl_cl T)) u') : wpX_room post u 0 := by
  obtain ⟨af, a1, a2, a3, a4, a5, a6, a7, a8, a9, a10, a11, a12, a13, a14⟩ := u
  unfold wpX_room
  refine rl_bad (by decide) (by decide) (br_t rfl (rl_ro0 h (fun u' h' => ?_)))
  have hP := rl_I_P h'
  obtain ⟨p1, p2, p3, p4, p5, p6, p7⟩ := hP
  obtain ⟨cf, c1, c2, c3, c4, c5, c6, c7, c8, c9, c10, c11, c12, c13, c14⟩ := u'
  exact rl_rm (by omega) (by omega) (hp _ h')
theorem rl_room1 {b0 b1 : Bool} {R B S N T A : Int} {n : Nat} {g d : Int32} {u : St1} {post : Int32 → St1 → Prop} (h : rl_I b0 b1 R B S N T n A g d u) (hp : ∀ u', rl_I b0 true R B S N T n A g d u' → post (rl_z (rl_cl (B - rl_lg n S 0))) u') : wpX_room post u 1 := by
  obtain ⟨af, a1, a2, a3, a4, a5, a6, a7, a8, a9, a10, a11, a12, a13, a14⟩ := u
  unfold wpX_room
  refine rl_bad (by decide) (by decide) (br_t rfl (rl_ro1 h (fun u' h' => ?_)))
  have hP := rl_I_P h'
  obtain ⟨p1, p2, p3, p4, p5, p6, p7⟩ := hP
  obtain ⟨cf, c1, c2, c3, c4, c5, c6, c7, c8, c9, c10, c11, c12, c13, c14⟩ := u'
  have hl : rl_lg n S 0 ≤ B := by
    obtain ⟨_, _, _, _, ⟨h, q, q1, q2, q3, q4, q5, q6, q7, q8⟩, _⟩ := h'
    rw [rl_lgW q7 p3.2 (Int.le_refl 0) q5]
    have := rl_Wb (N + 0 - S) q q5
    omega
  have hb := rl_lg_b n S 0
  exact rl_rm (by omega) (by omega) (hp _ h')
theorem rl_room2 {b0 b1 : Bool} {R B S N T A : Int} {n : Nat} {g d : Int32} {u : St1} {post : Int32 → St1 → Prop} (h : rl_I b0 b1 R B S N T n A g d u) (hp : ∀ u', rl_I b0 b1 R B S N T n A g d u' → post (rl_z (rl_cl ((B * S - A) / S))) u') : wpX_room post u 2 := by
  obtain ⟨af, a1, a2, a3, a4, a5, a6, a7, a8, a9, a10, a11, a12, a13, a14⟩ := u
  unfold wpX_room
  refine rl_bad (by decide) (by decide) (br_t rfl (rl_ro2 h (fun u' h' => ?_)))
  have hP := rl_I_P h'
  have hBS := rl_BS hP
  obtain ⟨p1, p2, p3, p4, p5, p6, p7⟩ := hP
  obtain ⟨cf, c1, c2, c3, c4, c5, c6, c7, c8, c9, c10, c11, c12, c13, c14⟩ := u'
  have h1 : 0 ≤ (B * S - A) / S := Int.ediv_nonneg (by omega) (by omega)
  have h2 : (B * S - A) / S ≤ B * S - A := Int.ediv_le_self _ (by omega)
  exact rl_rm h1 (by omega) (hp _ h')
theorem rl_granted {b0 b1 : Bool} {R B S N T A : Int} {n : Nat} {g d : Int32} {u : St1} {post : Int32 → Prop} (h : rl_I b0 b1 R B S N T n A g d u) (hp : post g) : wpX_granted post u 0 := by
  obtain ⟨af, a1, a2, a3, a4, a5, a6, a7, a8, a9, a10, a11, a12, a13, a14⟩ := u
  obtain ⟨hP, hf, hC, hT, hQ, hD, hg, hd⟩ := h
  unfold wpX_granted
  refine rl_bad (by decide) (by decide) (br_t rfl ⟨rl_v0, ?_⟩)
  rw [rl_k0, hg]
  exact hp
theorem rl_denied {b0 b1 : Bool} {R B S N T A : Int} {n : Nat} {g d : Int32} {u : St1} {post : Int32 → Prop} (h : rl_I b0 b1 R B S N T n A g d u) (hp : post d) : wpX_denied post u 2 := by
  obtain ⟨af, a1, a2, a3, a4, a5, a6, a7, a8, a9, a10, a11, a12, a13, a14⟩ := u
  obtain ⟨hP, hf, hC, hT, hQ, hD, hg, hd⟩ := h
  unfold wpX_denied
  refine rl_bad (by decide) (by decide) (br_t rfl ⟨rl_v2, ?_⟩)
  rw [rl_k2, hd]
  exact hp
end
section
/-! logWait, waitFor -/
theorem rl_lw22 {post : Int32 → Prop} {N S : Int} {af : Int32} {a1 a2 a3 a4 a5 a6 a7 a8 a9 a10 a11 a12 a13 a14 : Nat → Int32} {h : Nat} (h4 : a4 1 = rl_z S) (hf : af = rl_z N) (h10 : a10 1 = nI (h % 32)) :
    ∀ (q : List (Int × Int)) (lo : Int) (i k : Nat) (ov wt : Int), rl_ring a13 a14 (h + i) q → rl_ok N lo q → rl_sum q ≤ 30 → a11 1 = nI (i + q.length) → i + q.length ≤ 31 → -40 ≤ ov ∧ ov ≤ 60 → q.length < k → post (rl_z (rl_lw S N q ov wt)) → wX_logWait_22 post 1 af a1 a2 a3 a4 a5 a6 a7 a8 a9 a10 a11 a12 a13 a14 k (rl_z ov) (rl_z wt) (nI i) := by
  intro q
  induction q with
  | nil =>
    intro lo i k ov wt hr hok hsm h11 hi hov hk hp
    have hl : ([] : List (Int × Int)).length = 0 := rfl
    rw [hl] at h11 hi hk
    obtain ⟨k, rfl⟩ : ∃ k', k = k' + 1 := ⟨k - 1, by omega⟩
    refine ⟨rl_v1, br_t ?_ hp⟩
    rw [rl_k1, h11]
    exact nI_le (by omega) (by omega)
  | cons e q ih =>
    intro lo i k ov wt hr hok hsm h11 hi hov hk hp
    obtain ⟨r1, r2, r3⟩ := hr
    obtain ⟨k1, k2, k3, k4⟩ := hok
    have hl : (e :: q).length = q.length + 1 := rfl
    rw [hl] at h11 hi hk
    have hs : rl_sum (e :: q) = e.2 + rl_sum q := rfl
    rw [hs] at hsm
    have hs0 := rl_sum0 q k4
    obtain ⟨k, rfl⟩ : ∃ k', k = k' + 1 := ⟨k - 1, by omega⟩
    refine ⟨rl_v1, br_f ?_ (rl_ble ov 0 (fun hc => ?_) (fun hc => ⟨rl_v1, nm_r (e' := nI (32 + (h + i) % 32)) ?_ ⟨?_, nm_r (e' := rl_z (ov - e.2)) ?_ ⟨?_, rl_v1, nm_r (e' := rl_z (e.1 + S - N)) ?_ (nm_r (nI_1 i) ?_)⟩⟩⟩))⟩
    · rw [rl_k1, h11]
      exact nI_ge (by omega) (by omega)
    · have e1 : rl_lw S N (e :: q) ov wt = wt := if_pos hc
      rw [e1] at hp
      exact hp
    · rw [rl_k1, rl_hd h i h10 (by omega)]
      exact rl_ix (h + i) rfl
    · exact vp_in_nI (by omega) (by decide)
    · rw [nI_clamp (by omega), r2, rl_sub]
    · exact vp_in_nI (by omega) (by decide)
    · rw [nI_clamp (by omega), rl_k1, r1, h4, hf, rl_add, rl_sub]
    · have e1 : rl_lw S N (e :: q) ov wt = rl_lw S N q (ov - e.2) (e.1 + S - N) := if_neg (by omega)
      rw [e1] at hp
      exact ih e.1 (i + 1) k (ov - e.2) (e.1 + S - N) r3 k4 (by omega) (by rw [h11]; congr 1; omega) (by omega) (by omega) (by omega) hp
theorem rl_logWait {b0 : Bool} {R B S N T A : Int} {n c : Nat} {g d : Int32} {u : St1} {post : Int32 → Prop} (h : rl_I b0 true R B S N T n A g d u) (hc : (c : Int) ≤ B) (ho : B - rl_lg n S 0 < (c : Int)) (hp : ∀ r, rl_least n S B c r → post (rl_z r)) : wpX_logWait post u 1 (nI c) := by
  obtain ⟨af, a1, a2, a3, a4, a5, a6, a7, a8, a9, a10, a11, a12, a13, a14⟩ := u
  obtain ⟨hP, hf, hC, hT, hQ, hD, hg, hd⟩ := h
  obtain ⟨p1, p2, p3, p4, p5, p6, p7⟩ := hP
  obtain ⟨h, q, q1, q2, q3, q4, q5, q6, q7, q8⟩ := hQ
  have k3 : a3 1 = rl_z B := hC.2.2.2.2.2.1
  have k4 : a4 1 = rl_z S := hC.2.2.2.2.2.2.2.1
  have ew : rl_lg n S 0 = rl_sum q := by
    rw [rl_lgW q7 p3.2 (Int.le_refl 0) q5]
    exact rl_Wall q (by omega) (q8 rfl)
  have hlen := rl_len q q5
  have hs0 := rl_sum0 q q5
  refine ⟨rl_v1, rl_v1, nm_r (e' := rl_z (rl_sum q + c - B)) ?_ ⟨q.length + 1, ?_⟩⟩
  · rw [rl_k1, q3, k3, rl_zn, rl_add, rl_sub]
  · refine rl_lw22 k4 hf q1 q 0 0 (q.length + 1) (rl_sum q + c - B) 0 q4 q5 (by omega) ?_ (by omega) (by omega) (by omega) (hp _ (rl_least_1 q7 (q8 rfl) p3.2 hc (by omega)))
    rw [q2, Nat.zero_add]
theorem rl_wf1 {b0 b1 : Bool} {R B S N T A : Int} {n c : Nat} {g d : Int32} {u : St1} {post : Int32 → St1 → Prop} (h : rl_I b0 b1 R B S N T n A g d u) (hc1 : 1 ≤ c) (hc2 : c ≤ 20) (hp : ∀ r u', rl_I false false R B S N T n A g d u' → ((c : Int) ≤ B → rl_least n S B c r) → (B < (c : Int) → r = -4) → post (rl_z r) u') : wpX_waitFor post u 1 (nI c) := by
  obtain ⟨af, a1, a2, a3, a4, a5, a6, a7, a8, a9, a10, a11, a12, a13, a14⟩ := u
  have hPs := rl_I_P h
  obtain ⟨p1, p2, p3, p4, p5, p6, p7⟩ := hPs
  have k3 : a3 1 = rl_z B := h.2.2.1.2.2.2.2.2.1
  have hb := rl_lg_b n S 0
  unfold wpX_waitFor
  refine rl_bad (by decide) (by decide) (br_t rfl (rl_bc hc1 hc2 (br_t rfl ⟨rl_v1, rl_ble c B (fun hc => ?_) (fun hc => ?_) (rl_zn c) (by rw [rl_k1, k3])⟩)))
  · refine rl_ro1 h (fun u' h' => ?_)
    obtain ⟨cf, c1, c2, c3, c4, c5, c6, c7, c8, c9, c10, c11, c12, c13, c14⟩ := u'
    refine rl_blt (B - rl_lg n S 0) c (fun ho => ⟨rl_v1, br_t ?_ ?_⟩) (fun ho => ?_) rfl (rl_zn c)
    · rw [rl_k1]
      exact h'.2.2.1.2.1
    · exact rl_logWait h' hc ho (fun r hr => hp r _ (rl_I_f h') (fun _ => hr) (fun z => absurd z (by omega)))
    · exact hp 0 _ (rl_I_f h') (fun _ => ⟨Int.le_refl 0, by omega, by omega, fun w h0 h1 => absurd h1 (by omega)⟩) (fun z => absurd z (by omega))
  · exact hp (-4) _ (rl_I_f h) (fun z => absurd z (by omega)) (fun _ => rfl)
def rl_fill (R B T c : Int) : Int := if c ≤ B then (if c ≤ T then 0 else (c - T + R - 1) / R) else -4
theorem rl_wf0 {b0 b1 : Bool} {R B S N T A : Int} {n c : Nat} {g d : Int32} {u : St1} {post : Int32 → St1 → Prop} (h : rl_I b0 b1 R B S N T n A g d u) (hc1 : 1 ≤ c) (hc2 : c ≤ 20) (hp : ∀ u', rl_I false false R B S N T n A g d u' → post (rl_z (rl_fill R B T c)) u') : wpX_waitFor post u 0 (nI c) := by
  obtain ⟨af, a1, a2, a3, a4, a5, a6, a7, a8, a9, a10, a11, a12, a13, a14⟩ := u
  have hPs := rl_I_P h
  obtain ⟨p1, p2, p3, p4, p5, p6, p7⟩ := hPs
  have k3 : a3 0 = rl_z B := h.2.2.1.2.2.2.2.1
  unfold rl_fill at hp
  unfold wpX_waitFor
  refine rl_bad (by decide) (by decide) (br_t rfl (rl_bc hc1 hc2 (br_t rfl ⟨rl_v0, rl_ble c B (fun hc => ?_) (fun hc => ?_) (rl_zn c) (by rw [rl_k0, k3])⟩)))
  · rw [if_pos hc] at hp
    refine rl_ro0 h (fun u' h' => ?_)
    obtain ⟨cf, c1, c2, c3, c4, c5, c6, c7, c8, c9, c10, c11, c12, c13, c14⟩ := u'
    refine rl_blt T c (fun ho => ⟨rl_v0, br_f ?_ ⟨rl_v0, br_t ?_ ⟨rl_v0, rl_ble R 0 (fun z => absurd z (by omega)) (fun _ => ⟨rl_v0, rl_v0, ?_, ?_⟩) ?_⟩⟩⟩) (fun ho => ?_) rfl (rl_zn c)
    · rw [rl_k0, h'.2.2.1.1]
      decide
    · rw [rl_k0]
      exact h'.2.2.1.1
    · rw [rl_k0, h'.2.2.1.2.2.2.1]
      intro hz
      have hz' : rl_z R = rl_z 0 := hz
      rw [rl_eqI (by unfold rl_r; omega) (by unfold rl_r; omega)] at hz'
      omega
    · rw [rl_k0, h'.2.2.1.2.2.2.1, (rl_T_out h'.2.2.2.1).1, rl_zn, rl_sub, rl_add]
      have e1 : (rl_z ((c : Int) - T + R) - 1) = rl_z ((c : Int) - T + R - 1) := rl_sub _ 1
      rw [e1, rl_div (by omega) (by omega) (by omega) (by omega)]
      have := hp _ (rl_I_f h')
      rw [if_neg (by omega)] at this
      exact this
    · rw [rl_k0, h'.2.2.1.2.2.2.1]
    · have := hp _ (rl_I_f h')
      rw [if_pos (by omega)] at this
      exact this
  · rw [if_neg (by omega)] at hp
    exact hp _ (rl_I_f h)
def rl_space (B S A c : Int) : Int := if c ≤ B then (if A + c * S - B * S ≤ 0 then 0 else A + c * S - B * S) else -4
theorem rl_wf2 {b0 b1 : Bool} {R B S N T A : Int} {n c : Nat} {g d : Int32} {u : St1} {post : Int32 → St1 → Prop} (h : rl_I b0 b1 R B S N T n A g d u) (hc1 : 1 ≤ c) (hc2 : c ≤ 20) (hp : ∀ u', rl_I false false R B S N T n A g d u' → post (rl_z (rl_space B S A c)) u') : wpX_waitFor post u 2 (nI c) := by
  obtain ⟨af, a1, a2, a3, a4, a5, a6, a7, a8, a9, a10, a11, a12, a13, a14⟩ := u
  have hPs := rl_I_P h
  have hBS := rl_BS hPs
  obtain ⟨p1, p2, p3, p4, p5, p6, p7⟩ := hPs
  have k3 : a3 2 = rl_z B := h.2.2.1.2.2.2.2.2.2.1
  unfold rl_space at hp
  unfold wpX_waitFor
  refine rl_bad (by decide) (by decide) (br_t rfl (rl_bc hc1 hc2 (br_t rfl ⟨rl_v2, rl_ble c B (fun hc => ?_) (fun hc => ?_) (rl_zn c) (by rw [rl_k2, k3])⟩)))
  · rw [if_pos hc] at hp
    have h1 : 0 ≤ (B * S - A) / S := Int.ediv_nonneg (by omega) (by omega)
    have h2 : (B * S - A) / S ≤ B * S - A := Int.ediv_le_self _ (by omega)
    have hdv : (c : Int) ≤ (B * S - A) / S ↔ (c : Int) * S ≤ B * S - A := Int.le_ediv_iff_mul_le (by omega)
    have hcS : (c : Int) * S ≤ B * S := Int.mul_le_mul_of_nonneg_right hc (by omega)
    refine rl_ro2 h (fun u' h' => ?_)
    obtain ⟨cf, c1, c2, c3, c4, c5, c6, c7, c8, c9, c10, c11, c12, c13, c14⟩ := u'
    have j1 : c1 2 = 2 := h'.2.2.1.2.2.1
    have j3 : c3 2 = rl_z B := h'.2.2.1.2.2.2.2.2.2.1
    have j4 : c4 2 = rl_z S := h'.2.2.1.2.2.2.2.2.2.2.2.1
    have hp' := hp _ (rl_I_f h')
    obtain ⟨_, hf, _, _, _, ⟨D, d1, d2, d3⟩, _, _⟩ := h'
    refine rl_blt ((B * S - A) / S) c (fun ho => ⟨rl_v2, br_f ?_ ⟨rl_v2, br_f ?_ ⟨rl_v2, rl_v2, rl_v2, ?_⟩⟩⟩) (fun ho => ?_) rfl (rl_zn c)
    · rw [rl_k2, j1]
      decide
    · rw [rl_k2, j1]
      decide
    · have hn : ¬ (c : Int) * S ≤ B * S - A := fun z => absurd (hdv.mpr z) (by omega)
      rw [rl_k2, j3, j4, d1, hf, rl_zn, rl_sub, rl_mul, rl_add, rl_sub, Int.sub_mul, show D + ((c : Int) * S - B * S) - N = A + (c : Int) * S - B * S by omega]
      rw [if_neg (by omega), hf] at hp'
      exact hp'
    · have hn := hdv.mp ho
      rw [if_pos (by omega)] at hp'
      exact hp'
  · rw [if_neg (by omega)] at hp
    exact hp _ (rl_I_f h)
end
section
/-! grant -/
theorem rl_ring_up {a13 a14 c13 c14 : Nat → Int32} {t c : Int} {k : Nat} (h13 : c13 = upd a13 (32 + k % 32) (rl_z t)) (h14 : c14 = upd a14 (32 + k % 32) (rl_z c)) :
    ∀ (q : List (Int × Int)) (h : Nat), k = h + q.length → q.length < 32 → rl_ring a13 a14 h q → rl_ring c13 c14 h (q ++ [(t, c)]) := by
  intro q
  induction q with
  | nil =>
    intro h hk hl hr
    have hk' : k = h := hk
    subst hk'
    exact ⟨by rw [h13, pk_us], by rw [h14, pk_us], trivial⟩
  | cons e q ih =>
    intro h hk hl hr
    obtain ⟨r1, r2, r3⟩ := hr
    have hl' : q.length + 1 < 32 := hl
    have hk' : k = h + (q.length + 1) := hk
    have hne : 32 + h % 32 ≠ 32 + k % 32 := by omega
    exact ⟨by rw [h13, pk_un hne, r1], by rw [h14, pk_un hne, r2], ih (h + 1) (by omega) (by omega) r3⟩
theorem rl_gr0 {b1 : Bool} {R B S N T A : Int} {n c : Nat} {g d : Int32} {u : St1} {post : St1 → Prop} (h : rl_I true b1 R B S N T n A g d u) (hc : (c : Int) ≤ T) (hp : ∀ u', rl_I true b1 R B S N (T - c) n A (g + nI c) d u' → post u') : wpX_grant post u 0 (nI c) := by
  obtain ⟨af, a1, a2, a3, a4, a5, a6, a7, a8, a9, a10, a11, a12, a13, a14⟩ := u
  obtain ⟨hP, hf, hC, hT, hQ, hD, hg, hd⟩ := h
  obtain ⟨p1, p2, p3, p4, p5, p6, p7⟩ := hP
  obtain ⟨e7, e8⟩ := rl_T_out hT
  refine ⟨rl_v0, rl_v0, fun c5 x5 => ⟨rl_v0, br_t ?_ ⟨rl_v0, rl_v0, fun c7 x7 => hp _ ⟨⟨p1, p2, p3, p4, ⟨by omega, by omega⟩, p6, p7⟩, hf, hC, ?_, hQ, hD, ?_, hd⟩⟩⟩⟩
  · rw [rl_k0]
    exact hC.1
  · rw [rl_k0] at x7
    exact rl_T_in (by rw [x7, pk_us, e7, rl_zn, rl_sub]) e8 ⟨by omega, by omega⟩ p4.1
  · rw [x5, rl_k0, pk_us, hg]
theorem rl_gr1 {b0 : Bool} {R B S N T A : Int} {n c : Nat} {g d : Int32} {u : St1} {post : St1 → Prop} (h : rl_I b0 true R B S N T n A g d u) (hc1 : 1 ≤ c) (hc : rl_lg n S 0 + (c : Int) ≤ B) (hp : ∀ u', rl_I b0 true R B S N T (n + c) A g d u' → post u') : wpX_grant post u 1 (nI c) := by
  obtain ⟨af, a1, a2, a3, a4, a5, a6, a7, a8, a9, a10, a11, a12, a13, a14⟩ := u
  obtain ⟨hP, hf, hC, hT, hQ, hD, hg, hd⟩ := h
  obtain ⟨p1, p2, p3, p4, p5, p6, p7⟩ := hP
  obtain ⟨h, q, q1, q2, q3, q4, q5, q6, q7, q8⟩ := hQ
  have q8' := q8 rfl
  have ew : rl_lg n S 0 = rl_sum q := by
    rw [rl_lgW q7 p3.2 (Int.le_refl 0) q5]
    exact rl_Wall q (by omega) q8'
  have hlen := rl_len q q5
  have hm := rl_lanes_m q7 p3.1
  have hcb := rl_cb N q q5
  have hn : n % 32 + c < 32 := by omega
  have E : (1 : Int32) * 32 + ((a10 (1 : Int32).toNatClampNeg + a11 (1 : Int32).toNatClampNeg) &&& 31) = nI (32 + (h + q.length) % 32) := by
    rw [rl_k1, q2, rl_hd h q.length q1 (by omega)]
    exact rl_ix (h + q.length) rfl
  refine ⟨rl_v1, rl_v1, fun c5 x5 => ⟨rl_v1, br_f ?_ ⟨rl_v1, br_t ?_ ⟨rl_v1, rl_v1, nm_r E ⟨vp_in_nI (by omega) (by decide), fun c13 x13 => ⟨vp_in_nI (by omega) (by decide), fun c14 x14 => ⟨rl_v1, rl_v1, fun c11 x11 => ⟨rl_v1, rl_v1, fun c12 x12 => hp _ ⟨⟨p1, p2, p3, p4, p5, rl_lp_lt p6 hn, p7⟩, hf, ?_, hT, ?_, hD, ?_, hd⟩⟩⟩⟩⟩⟩⟩⟩⟩
  · rw [rl_k1, hC.2.1]
    decide
  · rw [rl_k1]
    exact hC.2.1
  · obtain ⟨c1, c2, c3, c4, c5, c6, c7, c8, c9, c10, c11⟩ := hC
    rw [rl_k1] at x11
    exact ⟨c1, c2, c3, c4, c5, c6, c7, c8, c9, by rw [x11, pk_un (by decide), c10], by rw [x11, pk_un (by decide), c11]⟩
  · rw [rl_k1] at x11 x12
    rw [nI_clamp (by omega)] at x13 x14
    rw [hf] at x13
    rw [rl_zn] at x14
    refine ⟨h, q ++ [(N, (c : Int))], q1, ?_, ?_, rl_ring_up x13 x14 q h rfl (by omega) q4, rl_ok_add (by omega) q p4.1 q5, ?_, rl_lanes_add q7 hn, fun _ => rl_ok_add (by omega) q (by omega) q8'⟩
    · rw [x11, pk_us, q2, List.length_append]
      exact nI_1 _
    · rw [x12, pk_us, q3, rl_zn, rl_add, rl_sum_add]
    · rw [rl_sum_add]
      omega
  · rw [x5, rl_k1, pk_un (by decide), hg]
theorem rl_gr2 {b0 b1 : Bool} {R B S N T A : Int} {n c : Nat} {g d : Int32} {u : St1} {post : St1 → Prop} (h : rl_I b0 b1 R B S N T n A g d u) (hc1 : 1 ≤ c) (hc : A + (c : Int) * S ≤ B * S) (hp : ∀ u', rl_I b0 b1 R B S N T n (A + c * S) g d u' → post u') : wpX_grant post u 2 (nI c) := by
  obtain ⟨af, a1, a2, a3, a4, a5, a6, a7, a8, a9, a10, a11, a12, a13, a14⟩ := u
  obtain ⟨hP, hf, hC, hT, hQ, hD, hg, hd⟩ := h
  have hP' := hP
  obtain ⟨p1, p2, p3, p4, p5, p6, p7⟩ := hP'
  have hcS : 0 ≤ (c : Int) * S := Int.mul_nonneg (by omega) (by omega)
  have k4 : a4 2 = rl_z S := hC.2.2.2.2.2.2.2.2.1
  refine ⟨rl_v2, rl_v2, fun c5 x5 => ⟨rl_v2, br_f ?_ ⟨rl_v2, br_f ?_ ?_⟩⟩⟩
  · rw [rl_k2, hC.2.2.1]
    decide
  · rw [rl_k2, hC.2.2.1]
    decide
  · rw [rl_k2] at x5
    have hg' : c5 0 = g := by rw [x5, pk_un (by decide), hg]
    have hI : rl_I b0 b1 R B S N T n A g d (af, a1, a2, a3, a4, c5, a6, a7, a8, a9, a10, a11, a12, a13, a14) := ⟨hP, hf, hC, hT, hQ, hD, hg', hd⟩
    refine rl_base hI ⟨rl_v2, rl_v2, fun c9 x9 => hp _ ⟨⟨p1, p2, p3, p4, p5, p6, by omega, by omega⟩, hf, hC, hT, hQ, ?_, hg', hd⟩⟩
    rw [rl_k2] at x9
    exact ⟨N + A + c * S, by rw [x9, pk_us, k4, rl_zn, rl_mul, rl_add], by omega, by omega⟩
/-! a denial -/
theorem rl_I_d01 {b0 b1 : Bool} {R B S N T A : Int} {n : Nat} {g d x : Int32} {af : Int32} {a1 a2 a3 a4 a5 a6 a7 a8 a9 a10 a11 a12 a13 a14 : Nat → Int32} {k : Nat} (hk : k = 0 ∨ k = 1) (h : rl_I b0 b1 R B S N T n A g d (af, a1, a2, a3, a4, a5, a6, a7, a8, a9, a10, a11, a12, a13, a14)) : rl_I b0 b1 R B S N T n A g d (af, a1, a2, a3, a4, a5, upd a6 k x, a7, a8, a9, a10, a11, a12, a13, a14) := by
  obtain ⟨hP, hf, hC, hT, hQ, hD, hg, hd⟩ := h
  exact ⟨hP, hf, hC, hT, hQ, hD, hg, by rw [pk_un (by omega), hd]⟩
theorem rl_I_d2 {b0 b1 : Bool} {R B S N T A : Int} {n : Nat} {g d : Int32} {af : Int32} {a1 a2 a3 a4 a5 a6 a7 a8 a9 a10 a11 a12 a13 a14 : Nat → Int32} (h : rl_I b0 b1 R B S N T n A g d (af, a1, a2, a3, a4, a5, a6, a7, a8, a9, a10, a11, a12, a13, a14)) : rl_I b0 b1 R B S N T n A g (d + 1) (af, a1, a2, a3, a4, a5, upd a6 2 (a6 2 + 1), a7, a8, a9, a10, a11, a12, a13, a14) := by
  obtain ⟨hP, hf, hC, hT, hQ, hD, hg, hd⟩ := h
  exact ⟨hP, hf, hC, hT, hQ, hD, hg, by rw [pk_us, hd]⟩
/-! pass -/
theorem rl_pass {R B S N T A : Int} {n U : Nat} {g d : Int32} {af : Int32} {a1 a2 a3 a4 a5 a6 a7 a8 a9 a10 a11 a12 a13 a14 : Nat → Int32} {post : Int32 → St1 → Prop} (h : rl_I false false R B S N T n A g d (af, a1, a2, a3, a4, a5, a6, a7, a8, a9, a10, a11, a12, a13, a14)) (hU : U ≤ 31) (hp : ∀ r, post r (rl_z (N + U), a1, a2, a3, a4, a5, a6, a7, a8, a9, a10, a11, a12, a13, a14)) : wpX_pass post (af, a1, a2, a3, a4, a5, a6, a7, a8, a9, a10, a11, a12, a13, a14) (nI U) := by
  have hP := rl_I_P h
  obtain ⟨p1, p2, p3, p4, p5, p6, p7⟩ := hP
  have hf := h.2.1
  have e : af + nI U = rl_z (N + U) := by rw [hf, rl_zn, rl_add]
  refine br_f (nI_pos (by omega)) (br_t (nI_le (b := 1000) (by omega) (by decide)) (rl_ble (N + U) 100000 (fun _ => nm_r e (hp _)) (fun z => absurd z (by omega)) e))
end
section
/-! ask -/
theorem rl_two {R B S N T A : Int} {n c : Nat} (h : rl_P R B S N T n A) : ((c : Int) ≤ (B * S - A) / S ↔ A + (c : Int) * S ≤ B * S) ∧ 0 ≤ (B * S - A) / S ∧ (B * S - A) / S ≤ 300 := by
  have hBS := rl_BS h
  obtain ⟨p1, p2, p3, p4, p5, p6, p7⟩ := h
  have h1 : 0 ≤ (B * S - A) / S := Int.ediv_nonneg (by omega) (by omega)
  have h2 : (B * S - A) / S ≤ B * S - A := Int.ediv_le_self _ (by omega)
  have hdv : (c : Int) ≤ (B * S - A) / S ↔ (c : Int) * S ≤ B * S - A := Int.le_ediv_iff_mul_le (by omega)
  exact ⟨⟨fun z => by have := hdv.mp z; omega, fun z => hdv.mpr (by omega)⟩, h1, by omega⟩
/-- set s, all the asked meters have room for c -/
abbrev rl_all (s c : Nat) (B S T : Int) (n : Nat) (A : Int) : Prop := (s % 2 = 1 → (c : Int) ≤ T) ∧ (s / 2 % 2 = 1 → rl_lg n S 0 + (c : Int) ≤ B) ∧ (s / 4 % 2 = 1 → A + (c : Int) * S ≤ B * S)
/-- the state after a grant to the set s -/
abbrev rl_Y (s c : Nat) (R B S N T : Int) (n : Nat) (A : Int) (g d : Int32) (u : St1) : Prop := rl_I false false R B S N (if s % 2 = 1 then T - c else T) (if s / 2 % 2 = 1 then n + c else n) (if s / 4 % 2 = 1 then A + c * S else A) (if s % 2 = 1 then g + nI c else g) d u
/-- the state after a denial -/
abbrev rl_X (s c : Nat) (R B S N T : Int) (n : Nat) (A : Int) (g d : Int32) (u : St1) : Prop := rl_I false false R B S N T n A g (if s / 4 % 2 = 1 ∧ ¬ A + (c : Int) * S ≤ B * S then d + 1 else d) u
theorem rl_ask0 {b0 b1 : Bool} {R B S N T A : Int} {n c : Nat} {g d : Int32} {u : St1} {post : Int32 → St1 → Prop} (h : rl_I b0 b1 R B S N T n A g d u) (hc1 : 1 ≤ c) (hc2 : c ≤ 20) (hy : rl_all 1 c B S T n A → ∀ u', rl_Y 1 c R B S N T n A g d u' → post 1 u') (hn : ¬ rl_all 1 c B S T n A → ∀ u', rl_X 1 c R B S N T n A g d u' → post 0 u') : wpX_ask post u 0 (nI c) := by
  obtain ⟨af, a1, a2, a3, a4, a5, a6, a7, a8, a9, a10, a11, a12, a13, a14⟩ := u
  obtain ⟨p1, p2, p3, p4, p5, p6, p7⟩ := rl_I_P h
  unfold wpX_ask
  refine rl_bad (by decide) (by decide) (br_t rfl (rl_bc hc1 hc2 (br_t rfl (rl_ro0 h (fun u' h' => ?_)))))
  obtain ⟨ef, e1, e2, e3, e4, e5, e6, e7, e8, e9, e10, e11, e12, e13, e14⟩ := u'
  refine rl_ble c T (fun ho => ?_) (fun ho => ⟨rl_v0, rl_v0, fun c6 x6 => ?_⟩) (rl_zn c) rfl
  · refine rl_gr0 h' ho (fun u'' h'' => ?_)
    obtain ⟨vf, v1, v2, v3, v4, v5, v6, v7, v8, v9, v10, v11, v12, v13, v14⟩ := u''
    exact hy ⟨fun _ => ho, fun z => absurd z (by decide), fun z => absurd z (by decide)⟩ _ (rl_I_f h'')
  · rw [rl_k0] at x6
    subst x6
    exact hn (fun z => absurd (z.1 rfl) (by omega)) _ (rl_I_f (rl_I_d01 (Or.inl rfl) h'))
theorem rl_ask1 {b0 b1 : Bool} {R B S N T A : Int} {n c : Nat} {g d : Int32} {u : St1} {post : Int32 → St1 → Prop} (h : rl_I b0 b1 R B S N T n A g d u) (hc1 : 1 ≤ c) (hc2 : c ≤ 20) (hy : rl_all 2 c B S T n A → ∀ u', rl_Y 2 c R B S N T n A g d u' → post 1 u') (hn : ¬ rl_all 2 c B S T n A → ∀ u', rl_X 2 c R B S N T n A g d u' → post 0 u') : wpX_ask post u 1 (nI c) := by
  obtain ⟨af, a1, a2, a3, a4, a5, a6, a7, a8, a9, a10, a11, a12, a13, a14⟩ := u
  obtain ⟨p1, p2, p3, p4, p5, p6, p7⟩ := rl_I_P h
  have hb := rl_lg_b n S 0
  unfold wpX_ask
  refine rl_bad (by decide) (by decide) (br_t rfl (rl_bc hc1 hc2 (br_t rfl (rl_ro1 h (fun u' h' => ?_)))))
  obtain ⟨ef, e1, e2, e3, e4, e5, e6, e7, e8, e9, e10, e11, e12, e13, e14⟩ := u'
  refine rl_ble c (B - rl_lg n S 0) (fun ho => ?_) (fun ho => ⟨rl_v1, rl_v1, fun c6 x6 => ?_⟩) (rl_zn c) rfl
  · refine rl_gr1 h' hc1 (by omega) (fun u'' h'' => ?_)
    obtain ⟨vf, v1, v2, v3, v4, v5, v6, v7, v8, v9, v10, v11, v12, v13, v14⟩ := u''
    exact hy ⟨fun z => absurd z (by decide), fun _ => by omega, fun z => absurd z (by decide)⟩ _ (rl_I_f h'')
  · rw [rl_k1] at x6
    subst x6
    exact hn (fun z => absurd (z.2.1 rfl) (by omega)) _ (rl_I_f (rl_I_d01 (Or.inr rfl) h'))
theorem rl_ask2 {b0 b1 : Bool} {R B S N T A : Int} {n c : Nat} {g d : Int32} {u : St1} {post : Int32 → St1 → Prop} (h : rl_I b0 b1 R B S N T n A g d u) (hc1 : 1 ≤ c) (hc2 : c ≤ 20) (hy : rl_all 4 c B S T n A → ∀ u', rl_Y 4 c R B S N T n A g d u' → post 1 u') (hn : ¬ rl_all 4 c B S T n A → ∀ u', rl_X 4 c R B S N T n A g d u' → post 0 u') : wpX_ask post u 2 (nI c) := by
  obtain ⟨af, a1, a2, a3, a4, a5, a6, a7, a8, a9, a10, a11, a12, a13, a14⟩ := u
  obtain ⟨w1, w2, w3⟩ := rl_two (c := c) (rl_I_P h)
  unfold wpX_ask
  refine rl_bad (by decide) (by decide) (br_t rfl (rl_bc hc1 hc2 (br_t rfl (rl_ro2 h (fun u' h' => ?_)))))
  obtain ⟨ef, e1, e2, e3, e4, e5, e6, e7, e8, e9, e10, e11, e12, e13, e14⟩ := u'
  refine rl_ble c ((B * S - A) / S) (fun ho => ?_) (fun ho => ⟨rl_v2, rl_v2, fun c6 x6 => ?_⟩) (rl_zn c) rfl
  · refine rl_gr2 h' hc1 (w1.mp ho) (fun u'' h'' => ?_)
    obtain ⟨vf, v1, v2, v3, v4, v5, v6, v7, v8, v9, v10, v11, v12, v13, v14⟩ := u''
    exact hy ⟨fun z => absurd z (by decide), fun z => absurd z (by decide), fun _ => w1.mp ho⟩ _ (rl_I_f h'')
  · rw [rl_k2] at x6
    subst x6
    have ht : ¬ A + (c : Int) * S ≤ B * S := fun z => absurd (w1.mpr z) (by omega)
    refine hn (fun z => ht (z.2.2 rfl)) _ ?_
    show rl_I false false R B S N T n A g (if 4 / 4 % 2 = 1 ∧ ¬ A + (c : Int) * S ≤ B * S then d + 1 else d) _
    rw [if_pos ⟨rfl, ht⟩]
    exact rl_I_f (rl_I_d2 h')
end
section
/-! askAll -/
theorem rl_b0 : ∀ s, s < 8 → (((nI s >>> (nI 0 &&& 31)) &&& 1) = 1 ↔ s % 2 = 1) := by decide +kernel
theorem rl_b1 : ∀ s, s < 8 → (((nI s >>> (nI 1 &&& 31)) &&& 1) = 1 ↔ s / 2 % 2 = 1) := by decide +kernel
theorem rl_b2 : ∀ s, s < 8 → (((nI s >>> (nI 2 &&& 31)) &&& 1) = 1 ↔ s / 4 % 2 = 1) := by decide +kernel
theorem rl_b3 : ∀ s, s < 8 → ¬ ((nI s >>> (nI 3 &&& 31)) &&& 1) = 1 := by decide +kernel
def rl_15 (post : Int32 → St1 → Prop) (x1 x2 : Int32) (k : Nat) (x3 x4 : Int32) (u : St1) : Prop := match u with
  | (af, a1, a2, a3, a4, a5, a6, a7, a8, a9, a10, a11, a12, a13, a14) => wX_askAll_15 post x1 x2 k x3 x4 af a1 a2 a3 a4 a5 a6 a7 a8 a9 a10 a11 a12 a13 a14
def rl_67 (post : Int32 → St1 → Prop) (x1 x2 x3 : Int32) (k : Nat) (x4 : Int32) (u : St1) : Prop := match u with
  | (af, a1, a2, a3, a4, a5, a6, a7, a8, a9, a10, a11, a12, a13, a14) => wX_askAll_67 post x1 x2 x3 k x4 af a1 a2 a3 a4 a5 a6 a7 a8 a9 a10 a11 a12 a13 a14
theorem rl_150 {b1 : Bool} {R B S N T A : Int} {n c s k : Nat} {g d x3 : Int32} {u : St1} {post : Int32 → St1 → Prop} (h : rl_I false b1 R B S N T n A g d u) (hs : s < 8) (hc2 : c ≤ 20)
    (K : ∀ u', rl_I (decide (s % 2 = 1)) b1 R B S N T n A g d u' → rl_15 post (nI s) (nI c) k (if s % 2 = 1 ∧ ¬ (c : Int) ≤ T then 0 else x3) (nI 1) u') : rl_15 post (nI s) (nI c) (k + 1) x3 (nI 0) u := by
  obtain ⟨af, a1, a2, a3, a4, a5, a6, a7, a8, a9, a10, a11, a12, a13, a14⟩ := u
  obtain ⟨p1, p2, p3, p4, p5, p6, p7⟩ := rl_I_P h
  refine br_f (nI_ge (a := 0) (b := 4) (by decide) (by decide)) (ek_if (rl_b0 s hs) (fun hb => ?_) (fun hb => nm_r (nI_1 0) ?_))
  · rw [decide_eq_true hb] at K
    refine rl_ro0 h (fun u' h' => ?_)
    obtain ⟨ef, e1, e2, e3, e4, e5, e6, e7, e8, e9, e10, e11, e12, e13, e14⟩ := u'
    refine rl_ble c T (fun ho => nm_r (nI_1 0) ?_) (fun ho => ⟨rl_v0, rl_v0, fun c6 x6 => nm_r (nI_1 0) ?_⟩) (rl_zn c) rfl
    · have := K _ h'
      rw [if_neg (fun z => z.2 ho)] at this
      exact this
    · have y6 : c6 = upd e6 0 (e6 0 + 1) := x6
      have := K _ (rl_I_d01 (x := e6 0 + 1) (Or.inl rfl) h')
      rw [if_pos ⟨hb, by omega⟩, ← y6] at this
      exact this
  · rw [decide_eq_false hb] at K
    have := K _ h
    rw [if_neg (fun z => hb z.1)] at this
    exact this
theorem rl_151 {b0 : Bool} {R B S N T A : Int} {n c s k : Nat} {g d x3 : Int32} {u : St1} {post : Int32 → St1 → Prop} (h : rl_I b0 false R B S N T n A g d u) (hs : s < 8) (hc2 : c ≤ 20)
    (K : ∀ u', rl_I b0 (decide (s / 2 % 2 = 1)) R B S N T n A g d u' → rl_15 post (nI s) (nI c) k (if s / 2 % 2 = 1 ∧ ¬ rl_lg n S 0 + (c : Int) ≤ B then 0 else x3) (nI 2) u') : rl_15 post (nI s) (nI c) (k + 1) x3 (nI 1) u := by
  obtain ⟨af, a1, a2, a3, a4, a5, a6, a7, a8, a9, a10, a11, a12, a13, a14⟩ := u
  obtain ⟨p1, p2, p3, p4, p5, p6, p7⟩ := rl_I_P h
  have hlb := rl_lg_b n S 0
  refine br_f (nI_ge (a := 1) (b := 4) (by decide) (by decide)) (ek_if (rl_b1 s hs) (fun hb => ?_) (fun hb => nm_r (nI_1 1) ?_))
  · rw [decide_eq_true hb] at K
    refine rl_ro1 h (fun u' h' => ?_)
    obtain ⟨ef, e1, e2, e3, e4, e5, e6, e7, e8, e9, e10, e11, e12, e13, e14⟩ := u'
    refine rl_ble c (B - rl_lg n S 0) (fun ho => nm_r (nI_1 1) ?_) (fun ho => ⟨rl_v1, rl_v1, fun c6 x6 => nm_r (nI_1 1) ?_⟩) (rl_zn c) rfl
    · have := K _ h'
      rw [if_neg (fun z => z.2 (by omega))] at this
      exact this
    · have y6 : c6 = upd e6 1 (e6 1 + 1) := x6
      have := K _ (rl_I_d01 (x := e6 1 + 1) (Or.inr rfl) h')
      rw [if_pos ⟨hb, by omega⟩, ← y6] at this
      exact this
  · rw [decide_eq_false hb] at K
    have := K _ h
    rw [if_neg (fun z => hb z.1)] at this
    exact this
theorem rl_152 {b0 b1 : Bool} {R B S N T A : Int} {n c s k : Nat} {g d x3 : Int32} {u : St1} {post : Int32 → St1 → Prop} (h : rl_I b0 b1 R B S N T n A g d u) (hs : s < 8) (hc2 : c ≤ 20)
    (K : ∀ u', rl_I b0 b1 R B S N T n A g (if s / 4 % 2 = 1 ∧ ¬ A + (c : Int) * S ≤ B * S then d + 1 else d) u' → rl_15 post (nI s) (nI c) k (if s / 4 % 2 = 1 ∧ ¬ A + (c : Int) * S ≤ B * S then 0 else x3) (nI 3) u') : rl_15 post (nI s) (nI c) (k + 1) x3 (nI 2) u := by
  obtain ⟨af, a1, a2, a3, a4, a5, a6, a7, a8, a9, a10, a11, a12, a13, a14⟩ := u
  obtain ⟨w1, w2, w3⟩ := rl_two (c := c) (rl_I_P h)
  refine br_f (nI_ge (a := 2) (b := 4) (by decide) (by decide)) (ek_if (rl_b2 s hs) (fun hb => ?_) (fun hb => nm_r (nI_1 2) ?_))
  · refine rl_ro2 h (fun u' h' => ?_)
    obtain ⟨ef, e1, e2, e3, e4, e5, e6, e7, e8, e9, e10, e11, e12, e13, e14⟩ := u'
    refine rl_ble c ((B * S - A) / S) (fun ho => nm_r (nI_1 2) ?_) (fun ho => ⟨rl_v2, rl_v2, fun c6 x6 => nm_r (nI_1 2) ?_⟩) (rl_zn c) rfl
    · have hn : ¬ (s / 4 % 2 = 1 ∧ ¬ A + (c : Int) * S ≤ B * S) := fun z => z.2 (w1.mp ho)
      rw [if_neg hn, if_neg hn] at K
      exact K _ h'
    · have hn : s / 4 % 2 = 1 ∧ ¬ A + (c : Int) * S ≤ B * S := ⟨hb, fun z => absurd (w1.mpr z) (by omega)⟩
      rw [if_pos hn, if_pos hn] at K
      have y6 : c6 = upd e6 2 (e6 2 + 1) := x6
      have := K _ (rl_I_d2 h')
      rw [← y6] at this
      exact this
  · have hn : ¬ (s / 4 % 2 = 1 ∧ ¬ A + (c : Int) * S ≤ B * S) := fun z => hb z.1
    rw [if_neg hn, if_neg hn] at K
    exact K _ h
theorem rl_153 {s k : Nat} {x2 x3 : Int32} {u : St1} {post : Int32 → St1 → Prop} (hs : s < 8) (K : ∃ f, rl_67 post (nI s) x2 x3 f (nI 0) u) : rl_15 post (nI s) x2 (k + 1 + 1) x3 (nI 3) u := by
  obtain ⟨af, a1, a2, a3, a4, a5, a6, a7, a8, a9, a10, a11, a12, a13, a14⟩ := u
  refine br_f (nI_ge (a := 3) (b := 4) (by decide) (by decide)) (br_f (rl_b3 s hs) (nm_r (nI_1 3) ?_))
  exact br_t (nI_le (a := 4) (b := 4) (by decide) (by decide)) K
theorem rl_67n {x1 x2 : Int32} {u : St1} {post : Int32 → St1 → Prop} (hp : post 0 u) : ∃ f, rl_67 post x1 x2 0 f (nI 0) u := by
  obtain ⟨af, a1, a2, a3, a4, a5, a6, a7, a8, a9, a10, a11, a12, a13, a14⟩ := u
  exact ⟨0 + 1, br_f (nI_ge (a := 0) (b := 4) (by decide) (by decide)) (br_t rfl (br_t rfl hp))⟩
theorem rl_670 {b1 : Bool} {R B S N T A : Int} {n c s k : Nat} {g d : Int32} {u : St1} {post : Int32 → St1 → Prop} (h : rl_I (decide (s % 2 = 1)) b1 R B S N T n A g d u) (hs : s < 8) (hh : s % 2 = 1 → (c : Int) ≤ T)
    (K : ∀ u', rl_I (decide (s % 2 = 1)) b1 R B S N (if s % 2 = 1 then T - c else T) n A (if s % 2 = 1 then g + nI c else g) d u' → rl_67 post (nI s) (nI c) 1 k (nI 1) u') : rl_67 post (nI s) (nI c) 1 (k + 1) (nI 0) u := by
  obtain ⟨af, a1, a2, a3, a4, a5, a6, a7, a8, a9, a10, a11, a12, a13, a14⟩ := u
  refine br_f (nI_ge (a := 0) (b := 4) (by decide) (by decide)) (br_f (by decide) (ek_if (rl_b0 s hs) (fun hb => ?_) (fun hb => nm_r (nI_1 0) ?_)))
  · rw [decide_eq_true hb] at K h
    rw [if_pos hb, if_pos hb] at K
    refine rl_gr0 h (hh hb) (fun u' h' => ?_)
    have := K _ h'
    obtain ⟨ef, e1, e2, e3, e4, e5, e6, e7, e8, e9, e10, e11, e12, e13, e14⟩ := u'
    exact nm_r (nI_1 0) this
  · rw [if_neg hb, if_neg hb] at K
    exact K _ h
theorem rl_671 {b0 : Bool} {R B S N T A : Int} {n c s k : Nat} {g d : Int32} {u : St1} {post : Int32 → St1 → Prop} (h : rl_I b0 (decide (s / 2 % 2 = 1)) R B S N T n A g d u) (hs : s < 8) (hc1 : 1 ≤ c) (hh : s / 2 % 2 = 1 → rl_lg n S 0 + (c : Int) ≤ B)
    (K : ∀ u', rl_I b0 (decide (s / 2 % 2 = 1)) R B S N T (if s / 2 % 2 = 1 then n + c else n) A g d u' → rl_67 post (nI s) (nI c) 1 k (nI 2) u') : rl_67 post (nI s) (nI c) 1 (k + 1) (nI 1) u := by
  obtain ⟨af, a1, a2, a3, a4, a5, a6, a7, a8, a9, a10, a11, a12, a13, a14⟩ := u
  refine br_f (nI_ge (a := 1) (b := 4) (by decide) (by decide)) (br_f (by decide) (ek_if (rl_b1 s hs) (fun hb => ?_) (fun hb => nm_r (nI_1 1) ?_)))
  · rw [decide_eq_true hb] at K h
    rw [if_pos hb] at K
    refine rl_gr1 h hc1 (hh hb) (fun u' h' => ?_)
    have := K _ h'
    obtain ⟨ef, e1, e2, e3, e4, e5, e6, e7, e8, e9, e10, e11, e12, e13, e14⟩ := u'
    exact nm_r (nI_1 1) this
  · rw [if_neg hb] at K
    exact K _ h
theorem rl_672 {b0 b1 : Bool} {R B S N T A : Int} {n c s k : Nat} {g d : Int32} {u : St1} {post : Int32 → St1 → Prop} (h : rl_I b0 b1 R B S N T n A g d u) (hs : s < 8) (hc1 : 1 ≤ c) (hh : s / 4 % 2 = 1 → A + (c : Int) * S ≤ B * S)
    (K : ∀ u', rl_I b0 b1 R B S N T n (if s / 4 % 2 = 1 then A + c * S else A) g d u' → post 1 u') : rl_67 post (nI s) (nI c) 1 (k + 1 + 1 + 1) (nI 2) u := by
  have K' : ∀ u', rl_I b0 b1 R B S N T n (if s / 4 % 2 = 1 then A + c * S else A) g d u' → rl_67 post (nI s) (nI c) 1 (k + 1 + 1) (nI 3) u' := by
    intro u' h'
    have := K _ h'
    obtain ⟨ef, e1, e2, e3, e4, e5, e6, e7, e8, e9, e10, e11, e12, e13, e14⟩ := u'
    refine br_f (nI_ge (a := 3) (b := 4) (by decide) (by decide)) (br_f (by decide) (br_f (rl_b3 s hs) (nm_r (nI_1 3) ?_)))
    exact br_t (nI_le (a := 4) (b := 4) (by decide) (by decide)) (br_f (by decide) this)
  obtain ⟨af, a1, a2, a3, a4, a5, a6, a7, a8, a9, a10, a11, a12, a13, a14⟩ := u
  refine br_f (nI_ge (a := 2) (b := 4) (by decide) (by decide)) (br_f (by decide) (ek_if (rl_b2 s hs) (fun hb => ?_) (fun hb => nm_r (nI_1 2) ?_)))
  · rw [if_pos hb] at K'
    refine rl_gr2 h hc1 (hh hb) (fun u' h' => ?_)
    have := K' _ h'
    obtain ⟨ef, e1, e2, e3, e4, e5, e6, e7, e8, e9, e10, e11, e12, e13, e14⟩ := u'
    exact nm_r (nI_1 2) this
  · rw [if_neg hb] at K'
    exact K' _ h
theorem rl_askAll {b0 b1 : Bool} {R B S N T A : Int} {n c s : Nat} {g d : Int32} {u : St1} {post : Int32 → St1 → Prop} (h : rl_I b0 b1 R B S N T n A g d u) (hs : s < 8) (hc1 : 1 ≤ c) (hc2 : c ≤ 20) (hy : rl_all s c B S T n A → ∀ u', rl_Y s c R B S N T n A g d u' → post 1 u') (hn : ¬ rl_all s c B S T n A → ∀ u', rl_X s c R B S N T n A g d u' → post 0 u') : wpX_askAll post u (nI s) (nI c) := by
  obtain ⟨af, a1, a2, a3, a4, a5, a6, a7, a8, a9, a10, a11, a12, a13, a14⟩ := u
  unfold wpX_askAll
  refine rl_bc hc1 hc2 (br_t rfl ⟨0 + 1 + 1 + 1 + 1 + 1, ?_⟩)
  refine rl_150 (rl_I_f h) hs hc2 (fun u1 h1 => rl_151 h1 hs hc2 (fun u2 h2 => rl_152 h2 hs hc2 (fun u3 h3 => rl_153 hs ?_)))
  by_cases hall : rl_all s c B S T n A
  · have i3 : ¬ (s / 4 % 2 = 1 ∧ ¬ A + (c : Int) * S ≤ B * S) := fun z => z.2 (hall.2.2 z.1)
    rw [if_neg i3] at h3
    rw [if_neg i3, if_neg (fun z => z.2 (hall.2.1 z.1)), if_neg (fun z => z.2 (hall.1 z.1))]
    refine ⟨0 + 1 + 1 + 1 + 1 + 1, rl_670 h3 hs hall.1 (fun u4 h4 => rl_671 h4 hs hc1 hall.2.1 (fun u5 h5 => rl_672 h5 hs hc1 hall.2.2 (fun u6 h6 => hy hall u6 (rl_I_f h6))))⟩
  · have e0 : (if s / 4 % 2 = 1 ∧ ¬ A + (c : Int) * S ≤ B * S then (0 : Int32) else if s / 2 % 2 = 1 ∧ ¬ rl_lg n S 0 + (c : Int) ≤ B then 0 else if s % 2 = 1 ∧ ¬ (c : Int) ≤ T then 0 else 1) = 0 := by
      by_cases i3 : s / 4 % 2 = 1 ∧ ¬ A + (c : Int) * S ≤ B * S
      · rw [if_pos i3]
      · rw [if_neg i3]
        by_cases i2 : s / 2 % 2 = 1 ∧ ¬ rl_lg n S 0 + (c : Int) ≤ B
        · rw [if_pos i2]
        · rw [if_neg i2]
          by_cases i1 : s % 2 = 1 ∧ ¬ (c : Int) ≤ T
          · rw [if_pos i1]
          · exact absurd ⟨fun z => Decidable.not_not.mp (fun y => i1 ⟨z, y⟩), fun z => Decidable.not_not.mp (fun y => i2 ⟨z, y⟩), fun z => Decidable.not_not.mp (fun y => i3 ⟨z, y⟩)⟩ hall
    rw [e0]
    exact rl_67n (hn hall u3 (rl_I_f h3))
end
section
/-! the law's lower half: what it asks after each step -/
def rl_J (J : Int32 → Int64 → Int32 → Int32 → Int32 → Int32 → Int32 → (Nat → Int32) → (Nat → Int32) → (Nat → Int32) → (Nat → Int32) → (Nat → Int32) → (Nat → Int32) → (Nat → Int32) → (Nat → Int32) → (Nat → Int32) → (Nat → Int32) → (Nat → Int32) → (Nat → Int32) → (Nat → Int32) → (Nat → Int32) → Prop) (x7 : Int32) (x8 : Int64) (x10 x11 x12 x13 : Int32) (u : St1) : Prop := match u with
  | (af, a1, a2, a3, a4, a5, a6, a7, a8, a9, a10, a11, a12, a13, a14) => J x7 x8 x10 x11 x12 x13 af a1 a2 a3 a4 a5 a6 a7 a8 a9 a10 a11 a12 a13 a14
theorem rl_z0 : rl_z 0 = 0 := by decide
theorem rl_logged {post : Int32 → Prop} {u : St2} {n : Nat} {S w : Int} (hn : n < 2 ^ 50) (hS : 1 ≤ S ∧ S ≤ 10) (hw : 0 ≤ w ∧ w ≤ 10) (hp : post (rl_z (rl_lg n S w))) : wpL_logged post u (lN n) (rl_z S) (rl_z w) := by
  unfold wpL_logged
  refine pk_loop (σ := Unit) (fun k i _ => wL_logged_6 post (lN n) (rl_z S) (rl_z w) k (rl_z (rl_ls (rl_ln n) S w i)) (nI i)) (fun _ _ => True) 10 0 () (by omega) trivial (fun k _ _ => ?_) (fun k i _ hi _ hk => ?_)
  · exact br_t (nI_le (a := 10) (b := 10) (by decide) (by decide)) hp
  · have hk' : wL_logged_6 post (lN n) (rl_z S) (rl_z w) k (rl_z (rl_ls (rl_ln n) S w i + (if (i : Int) + w < S then rl_ln n i else 0))) (nI (i + 1)) := hk () trivial
    refine br_f (nI_ge (b := 10) hi (by decide)) (rl_ble S (i + w) (fun hc => nm_r (nI_1 i) ?_) (fun hc => nm_r (e' := rl_z (rl_ls (rl_ln n) S w i + rl_ln n i)) ?_ (nm_r (nI_1 i) ?_)) rfl (by rw [rl_zn, rl_add]))
    · rw [if_neg (by omega), Int.add_zero] at hk'
      exact hk'
    · rw [rl_lane hn hi, rl_zn, rl_add]
      rfl
    · rw [if_pos hc] at hk'
      exact hk'
/-- what the law has found of the log's wait, from k to 10 -/
def rl_due (n : Nat) (S B : Int) (c k : Nat) (x : Int32) : Prop := k ≤ 11 ∧ ((x = rl_z (-4) ∧ ∀ w : Int, (k : Int) ≤ w → w ≤ 10 → B < rl_lg n S w + c) ∨ (∃ r : Int, x = rl_z r ∧ (k : Int) ≤ r ∧ r ≤ 10 ∧ rl_lg n S r + c ≤ B ∧ ∀ w : Int, (k : Int) ≤ w → w < r → B < rl_lg n S w + c))
theorem rl_due_n {n : Nat} {S B : Int} {c k : Nat} {x : Int32} (h : rl_due n S B c (k + 1) x) (hk : B < rl_lg n S k + c) : rl_due n S B c k x := by
  obtain ⟨h1, h2⟩ := h
  have hw : ∀ w : Int, (k : Int) ≤ w → w = k ∨ ((k + 1 : Nat) : Int) ≤ w := fun w hw => by omega
  refine ⟨by omega, ?_⟩
  rcases h2 with ⟨e, h2⟩ | ⟨r, e, r1, r2, r3, r4⟩
  · refine Or.inl ⟨e, fun w w1 w2 => ?_⟩
    rcases hw w w1 with e' | e'
    · rw [e']
      exact hk
    · exact h2 w e' w2
  · refine Or.inr ⟨r, e, by omega, r2, r3, fun w w1 w2 => ?_⟩
    rcases hw w w1 with e' | e'
    · rw [e']
      exact hk
    · exact r4 w e' w2
theorem rl_due_y {n : Nat} {S B : Int} {c k : Nat} (h1 : k ≤ 10) (hk : rl_lg n S k + c ≤ B) : rl_due n S B c k (rl_z k) :=
  ⟨by omega, Or.inr ⟨k, rfl, by omega, by omega, hk, fun w w1 w2 => absurd w2 (by omega)⟩⟩
theorem rl_due_0 {n : Nat} {S B : Int} {c : Nat} {x : Int32} (h : rl_due n S B c 0 x) (r : Int) (hl : (c : Int) ≤ B → rl_least n S B c r) (hf : B < (c : Int) → r = -4) : rl_z r = x := by
  obtain ⟨h1, h2⟩ := h
  rcases h2 with ⟨e, h2⟩ | ⟨r', e, r1, r2, r3, r4⟩
  · by_cases hc : (c : Int) ≤ B
    · obtain ⟨l1, l2, l3, l4⟩ := hl hc
      have := h2 r (by omega) l2
      omega
    · rw [hf (by omega), e]
  · have hb := rl_lg_b n S r'
    have := rl_least_u (hl (by omega)) ⟨by omega, r2, r3, fun w w1 w2 => r4 w (by omega) w2⟩
    rw [this, e]
section
variable {post : Int32 → Prop} {L : Nat} {xs : Nat → Int32} {J : Int32 → Int64 → Int32 → Int32 → Int32 → Int32 → Int32 → (Nat → Int32) → (Nat → Int32) → (Nat → Int32) → (Nat → Int32) → (Nat → Int32) → (Nat → Int32) → (Nat → Int32) → (Nat → Int32) → (Nat → Int32) → (Nat → Int32) → (Nat → Int32) → (Nat → Int32) → (Nat → Int32) → (Nat → Int32) → Prop} {b0 b1 : Bool} {R B S N T A : Int} {n c : Nat} {g d x13 : Int32} {kc ks : Nat}
theorem rl_L821 {af : Int32} {a1 a2 a3 a4 a5 a6 a7 a8 a9 a10 a11 a12 a13 a14 : Nat → Int32} {x3 x4 x5 x7 x10 x20 x22 z0 : Int32} {x8 : Int64} (h : rl_I b0 b1 R B S N T n A g d (af, a1, a2, a3, a4, a5, a6, a7, a8, a9, a10, a11, a12, a13, a14)) (hc1 : 1 ≤ c) (hc2 : c ≤ 20) (h22 : x22 = rl_z (rl_fill R B T c)) (h20 : ∀ r, ((c : Int) ≤ B → rl_least n S B c r) → (B < (c : Int) → r = -4) → rl_z r = x20) (hz : z0 = rl_z (rl_space B S A c)) (hJ : ∀ u', rl_I false false R B S N T n A g d u' → rl_J J x7 x8 x10 g d (x13 + 2) u') : wL_law_821 post L xs J x3 x4 x5 x7 x8 x10 g d x13 (nI c) x20 x22 z0 kc ks af a1 a2 a3 a4 a5 a6 a7 a8 a9 a10 a11 a12 a13 a14 := by
  unfold wL_law_821
  refine rl_wf0 h hc1 hc2 (fun u1 h1 => ?_)
  obtain ⟨ef, e1, e2, e3, e4, e5, e6, e7, e8, e9, e10, e11, e12, e13, e14⟩ := u1
  refine br_t h22.symm (rl_wf1 h1 hc1 hc2 (fun r u2 h2 hl hf => ?_))
  obtain ⟨of, o1, o2, o3, o4, o5, o6, o7, o8, o9, o10, o11, o12, o13, o14⟩ := u2
  refine br_t (h20 r hl hf) (rl_wf2 h2 hc1 hc2 (fun u3 h3 => ?_))
  obtain ⟨vf, v1, v2, v3, v4, v5, v6, v7, v8, v9, v10, v11, v12, v13, v14⟩ := u3
  exact br_t hz.symm (nm_e (hJ _ h3))
theorem rl_L780 {af : Int32} {a1 a2 a3 a4 a5 a6 a7 a8 a9 a10 a11 a12 a13 a14 : Nat → Int32} {x7 x20 z0 : Int32} {x8 : Int64} (h : rl_I b0 b1 R B S N T n A g d (af, a1, a2, a3, a4, a5, a6, a7, a8, a9, a10, a11, a12, a13, a14)) (hc1 : 1 ≤ c) (hc2 : c ≤ 20) (h22 : z0 = rl_z (rl_fill R B T c)) (h20 : rl_due n S B c 0 x20) (hJ : ∀ u', rl_I false false R B S N T n A g d u' → rl_J J x7 x8 (rl_z A) g d (x13 + 2) u') : wL_law_780 post L xs J (rl_z R) (rl_z B) (rl_z S) x7 x8 (rl_z A) g d x13 (nI c) x20 z0 kc ks af a1 a2 a3 a4 a5 a6 a7 a8 a9 a10 a11 a12 a13 a14 := by
  have hBS := rl_BS (rl_I_P h)
  obtain ⟨p1, p2, p3, p4, p5, p6, p7⟩ := rl_I_P h
  have hcS := rl_mulb (R := (c : Int)) (x := S) (r := 20) (X := 10) (by omega) (by omega) (by omega) (by omega) (by omega)
  refine nm_r (e' := rl_z (A + c * S - B * S)) (by rw [rl_zn, rl_mul, rl_add, rl_mul, rl_sub]) ?_
  refine rl_ble c B (fun hc => rl_ble (A + c * S - B * S) 0 (fun ho => ?_) (fun ho => ?_)) (fun hc => ?_) (rl_zn c) rfl
  · exact rl_L821 h hc1 hc2 h22 (rl_due_0 h20) (by unfold rl_space; rw [if_pos hc, if_pos ho]; rfl) hJ
  · exact rl_L821 h hc1 hc2 h22 (rl_due_0 h20) (by unfold rl_space; rw [if_pos hc, if_neg (by omega)]) hJ
  · exact rl_L821 h hc1 hc2 h22 (rl_due_0 h20) (by unfold rl_space; rw [if_neg (by omega)]; rfl) hJ
theorem rl_L707x {af : Int32} {a1 a2 a3 a4 a5 a6 a7 a8 a9 a10 a11 a12 a13 a14 : Nat → Int32} {x20 : Int32} {k : Nat} (h : rl_I b0 b1 R B S N T n A g d (af, a1, a2, a3, a4, a5, a6, a7, a8, a9, a10, a11, a12, a13, a14)) (hc1 : 1 ≤ c) (hc2 : c ≤ 20) (h20 : rl_due n S B c 0 x20) (hJ : ∀ u', rl_I false false R B S N T n A g d u' → rl_J J (rl_z T) (lN n) (rl_z A) g d (x13 + 2) u') : wL_law_707 post L xs J (rl_z R) (rl_z B) (rl_z S) (rl_z T) (lN n) (rl_z A) g d x13 (nI c) kc ks af a1 a2 a3 a4 a5 a6 a7 a8 a9 a10 a11 a12 a13 a14 (k + 1) x20 (rl_z (((0 : Nat) : Int) - 1)) := by
  obtain ⟨p1, p2, p3, p4, p5, p6, p7⟩ := rl_I_P h
  refine br_t (by decide) (nm_r (e' := rl_z (c - T)) (by rw [rl_zn, rl_sub]) ?_)
  refine rl_ble c B (fun hc => rl_ble (c - T) 0 (fun ho => ?_) (fun ho => ⟨?_, ?_⟩)) (fun hc => ?_) (rl_zn c) rfl
  · exact rl_L780 h hc1 hc2 (by unfold rl_fill; rw [if_pos hc, if_pos (by omega)]; rfl) h20 hJ
  · intro hz
    have hz' : rl_z R = rl_z 0 := hz
    rw [rl_eqI (by unfold rl_r; omega) (by unfold rl_r; omega)] at hz'
    omega
  · refine rl_L780 h hc1 hc2 ?_ h20 hJ
    unfold rl_fill
    rw [if_pos hc, if_neg (by omega), rl_add]
    have e1 : (rl_z ((c : Int) - T + R) - 1) = rl_z ((c : Int) - T + R - 1) := rl_sub _ 1
    rw [e1, rl_div (by omega) (by omega) (by omega) (by omega)]
  · exact rl_L780 h hc1 hc2 (by unfold rl_fill; rw [if_neg (by omega)]; rfl) h20 hJ
theorem rl_L707 {af : Int32} {a1 a2 a3 a4 a5 a6 a7 a8 a9 a10 a11 a12 a13 a14 : Nat → Int32} (h : rl_I b0 b1 R B S N T n A g d (af, a1, a2, a3, a4, a5, a6, a7, a8, a9, a10, a11, a12, a13, a14)) (hc1 : 1 ≤ c) (hc2 : c ≤ 20) (hJ : ∀ u', rl_I false false R B S N T n A g d u' → rl_J J (rl_z T) (lN n) (rl_z A) g d (x13 + 2) u') : ∃ f, wL_law_707 post L xs J (rl_z R) (rl_z B) (rl_z S) (rl_z T) (lN n) (rl_z A) g d x13 (nI c) kc ks af a1 a2 a3 a4 a5 a6 a7 a8 a9 a10 a11 a12 a13 a14 f (-4) 10 := by
  obtain ⟨p1, p2, p3, p4, p5, p6, p7⟩ := rl_I_P h
  refine ⟨11 + 1, ?_⟩
  have main := pk_loopD (fun f k x => wL_law_707 post L xs J (rl_z R) (rl_z B) (rl_z S) (rl_z T) (lN n) (rl_z A) g d x13 (nI c) kc ks af a1 a2 a3 a4 a5 a6 a7 a8 a9 a10 a11 a12 a13 a14 f x (rl_z ((k : Int) - 1))) (fun k x => rl_due n S B c k x) (fun f x hx => rl_L707x h hc1 hc2 hx hJ) ?_ 11 (-4) ⟨by omega, Or.inl ⟨by decide, fun w w1 w2 => absurd w1 (by omega)⟩⟩
  · exact main
  · intro f k x hx hk
    have hk11 := hx.1
    have ek : ((k + 1 : Nat) : Int) - 1 = (k : Int) := by omega
    have hlb := rl_lg_b n S k
    show wL_law_707 post L xs J (rl_z R) (rl_z B) (rl_z S) (rl_z T) (lN n) (rl_z A) g d x13 (nI c) kc ks af a1 a2 a3 a4 a5 a6 a7 a8 a9 a10 a11 a12 a13 a14 (f + 1) x (rl_z (((k + 1 : Nat) : Int) - 1))
    rw [ek]
    have em : rl_z (k : Int) + (-1) = rl_z ((k : Int) - 1) := by
      have e1 : (-1 : Int32) = rl_z (-1) := by decide
      rw [e1, rl_add, show (k : Int) + -1 = (k : Int) - 1 by omega]
    refine rl_blt (k : Int) 0 (fun z => absurd z (by omega)) (fun _ => rl_logged p6 p3 ⟨by omega, by omega⟩ ?_) rfl rl_z0.symm
    refine rl_blt B (rl_lg n S k + c) (fun ho => nm_r em (hk _ (rl_due_n hx ho))) (fun ho => nm_r em (hk _ (rl_due_y (by omega) ho))) rfl (by rw [rl_zn, rl_add])
theorem rl_L672 {af : Int32} {a1 a2 a3 a4 a5 a6 a7 a8 a9 a10 a11 a12 a13 a14 : Nat → Int32} {z0 z1 : Int32} (hz : z1 = z0) (h : rl_I b0 b1 R B S N T n A g d (af, a1, a2, a3, a4, a5, a6, a7, a8, a9, a10, a11, a12, a13, a14)) (hc1 : 1 ≤ c) (hc2 : c ≤ 20) (hJ : ∀ u', rl_I false false R B S N T n A g d u' → rl_J J (rl_z T) (lN n) (rl_z A) g d (x13 + 2) u') : wL_law_672 post L xs J (rl_z R) (rl_z B) (rl_z S) (rl_z T) (lN n) (rl_z A) g d x13 (nI c) z0 z1 kc ks af a1 a2 a3 a4 a5 a6 a7 a8 a9 a10 a11 a12 a13 a14 :=
  br_t hz (rl_granted h (br_t rfl (rl_denied h (br_t rfl (rl_L707 h hc1 hc2 hJ)))))
theorem rl_L650 {af : Int32} {a1 a2 a3 a4 a5 a6 a7 a8 a9 a10 a11 a12 a13 a14 : Nat → Int32} {z0 z1 : Int32} (hz : z1 = z0) (h : rl_I b0 b1 R B S N T n A g d (af, a1, a2, a3, a4, a5, a6, a7, a8, a9, a10, a11, a12, a13, a14)) (hc1 : 1 ≤ c) (hc2 : c ≤ 20) (hJ : ∀ u', rl_I false false R B S N T n A g d u' → rl_J J (rl_z T) (lN n) (rl_z A) g d (x13 + 2) u') : wL_law_650 post L xs J (rl_z R) (rl_z B) (rl_z S) (rl_z T) (lN n) (rl_z A) g d x13 (nI c) (rl_z ((B * S - A) / S)) z0 z1 kc ks af a1 a2 a3 a4 a5 a6 a7 a8 a9 a10 a11 a12 a13 a14 := by
  obtain ⟨w1, w2, w3⟩ := rl_two (c := c) (rl_I_P h)
  refine br_t hz (rl_room2 h (fun u' h' => ?_))
  obtain ⟨ef, e1, e2, e3, e4, e5, e6, e7, e8, e9, e10, e11, e12, e13, e14⟩ := u'
  refine rl_ble ((B * S - A) / S) 20 (fun ho => ?_) (fun ho => ?_)
  · exact rl_L672 (by unfold rl_cl; rw [if_pos ho]) h' hc1 hc2 hJ
  · exact rl_L672 (by unfold rl_cl; rw [if_neg (by omega)]; rfl) h' hc1 hc2 hJ
theorem rl_L628 {af : Int32} {a1 a2 a3 a4 a5 a6 a7 a8 a9 a10 a11 a12 a13 a14 : Nat → Int32} {z0 z1 : Int32} (hz : z1 = z0) (h : rl_I b0 b1 R B S N T n A g d (af, a1, a2, a3, a4, a5, a6, a7, a8, a9, a10, a11, a12, a13, a14)) (hc1 : 1 ≤ c) (hc2 : c ≤ 20) (hJ : ∀ u', rl_I false false R B S N T n A g d u' → rl_J J (rl_z T) (lN n) (rl_z A) g d (x13 + 2) u') : wL_law_628 post L xs J (rl_z R) (rl_z B) (rl_z S) (rl_z T) (lN n) (rl_z A) g d x13 (nI c) (rl_z (B - rl_lg n S 0)) (rl_z ((B * S - A) / S)) z0 z1 kc ks af a1 a2 a3 a4 a5 a6 a7 a8 a9 a10 a11 a12 a13 a14 := by
  obtain ⟨p1, p2, p3, p4, p5, p6, p7⟩ := rl_I_P h
  have hlb := rl_lg_b n S 0
  refine br_t hz (rl_room1 h (fun u' h' => ?_))
  obtain ⟨ef, e1, e2, e3, e4, e5, e6, e7, e8, e9, e10, e11, e12, e13, e14⟩ := u'
  refine rl_ble (B - rl_lg n S 0) 20 (fun ho => ?_) (fun ho => ?_)
  · exact rl_L650 (by unfold rl_cl; rw [if_pos ho]) h' hc1 hc2 hJ
  · exact rl_L650 (by unfold rl_cl; rw [if_neg (by omega)]; rfl) h' hc1 hc2 hJ
theorem rl_L583 {af : Int32} {a1 a2 a3 a4 a5 a6 a7 a8 a9 a10 a11 a12 a13 a14 : Nat → Int32} (h : rl_I b0 b1 R B S N T n A g d (af, a1, a2, a3, a4, a5, a6, a7, a8, a9, a10, a11, a12, a13, a14)) (hc1 : 1 ≤ c) (hc2 : c ≤ 20) (hJ : ∀ u', rl_I false false R B S N T n A g d u' → rl_J J (rl_z T) (lN n) (rl_z A) g d (x13 + 2) u') : wL_law_583 post L xs J (rl_z R) (rl_z B) (rl_z S) (rl_z T) (lN n) (rl_z A) g d x13 (nI c) kc ks af a1 a2 a3 a4 a5 a6 a7 a8 a9 a10 a11 a12 a13 a14 := by
  have hBS := rl_BS (rl_I_P h)
  obtain ⟨p1, p2, p3, p4, p5, p6, p7⟩ := rl_I_P h
  unfold wL_law_583
  refine rl_logged (w := 0) p6 p3 ⟨by omega, by omega⟩ (nm_r (rl_sub _ _) ⟨?_, nm_r (e' := rl_z ((B * S - A) / S)) ?_ ?_⟩)
  · intro hz
    have hz' : rl_z S = rl_z 0 := hz
    rw [rl_eqI (by unfold rl_r; omega) (by unfold rl_r; omega)] at hz'
    omega
  · rw [rl_mul, rl_sub, rl_div (by omega) (by omega) (by omega) (by omega)]
  · refine rl_room0 h (fun u' h' => ?_)
    obtain ⟨ef, e1, e2, e3, e4, e5, e6, e7, e8, e9, e10, e11, e12, e13, e14⟩ := u'
    refine rl_ble T 20 (fun ho => ?_) (fun ho => ?_)
    · exact rl_L628 (by unfold rl_cl; rw [if_pos ho]) h' hc1 hc2 hJ
    · exact rl_L628 (by unfold rl_cl; rw [if_neg (by omega)]; rfl) h' hc1 hc2 hJ
end
end
section
/-! the law's upper half: one step -/
section
variable {post : Int32 → Prop} {L : Nat} {xs : Nat → Int32} {J : Int32 → Int64 → Int32 → Int32 → Int32 → Int32 → Int32 → (Nat → Int32) → (Nat → Int32) → (Nat → Int32) → (Nat → Int32) → (Nat → Int32) → (Nat → Int32) → (Nat → Int32) → (Nat → Int32) → (Nat → Int32) → (Nat → Int32) → (Nat → Int32) → (Nat → Int32) → (Nat → Int32) → (Nat → Int32) → Prop} {b0 b1 : Bool} {R B S N T A : Int} {n c s : Nat} {g d x13 : Int32} {kc ks : Nat}
theorem rl_L458 {af : Int32} {a1 a2 a3 a4 a5 a6 a7 a8 a9 a10 a11 a12 a13 a14 : Nat → Int32} {x3 x4 x5 x7 x10 x11 x12 x16 x20 : Int32} {x8 : Int64} (hs : s < 8) (H : wL_law_583 post L xs J x3 x4 x5 x7 x8 x10 x11 (if s / 4 % 2 = 1 ∧ x20 = 0 then x12 + 1 else x12) x13 x16 kc ks af a1 a2 a3 a4 a5 a6 a7 a8 a9 a10 a11 a12 a13 a14) : wL_law_458 post L xs J x3 x4 x5 x7 x8 x10 x12 x13 x16 (nI s) x20 x11 kc ks af a1 a2 a3 a4 a5 a6 a7 a8 a9 a10 a11 a12 a13 a14 := by
  refine ek_if (rl_m4 s hs) (fun hb => ?_) (fun hb => br_c (fun hx => ?_) (fun hx => ?_))
  · rw [if_neg (fun z => absurd z.1 (by omega))] at H
    unfold wL_law_479 wL_law_481
    exact H
  · rw [if_pos ⟨by omega, hx⟩] at H
    unfold wL_law_481
    exact H
  · rw [if_neg (fun z => hx z.2)] at H
    unfold wL_law_479 wL_law_481
    exact H
theorem rl_L434 {af : Int32} {a1 a2 a3 a4 a5 a6 a7 a8 a9 a10 a11 a12 a13 a14 : Nat → Int32} {x3 x4 x5 x7 x10 x11 x12 x16 x20 : Int32} {x8 : Int64} (hs : s < 8) (H : wL_law_583 post L xs J x3 x4 x5 x7 x8 x10 (if s % 2 = 1 then x11 + x16 else x11) (if s / 4 % 2 = 1 ∧ x20 = 0 then x12 + 1 else x12) x13 x16 kc ks af a1 a2 a3 a4 a5 a6 a7 a8 a9 a10 a11 a12 a13 a14) : wL_law_434 post L xs J x3 x4 x5 x7 x8 x11 x12 x13 x16 (nI s) x20 1 x10 kc ks af a1 a2 a3 a4 a5 a6 a7 a8 a9 a10 a11 a12 a13 a14 := by
  refine br_f (by decide) (ek_if (rl_m1 s hs) (fun hb => ?_) (fun hb => ?_))
  · rw [if_neg (by omega)] at H
    unfold wL_law_456
    exact rl_L458 hs H
  · rw [if_pos (by omega)] at H
    exact rl_L458 hs H
theorem rl_L407 {af : Int32} {a1 a2 a3 a4 a5 a6 a7 a8 a9 a10 a11 a12 a13 a14 : Nat → Int32} {x3 x4 x5 x7 x10 x11 x12 x16 x20 : Int32} {x8 : Int64} (hs : s < 8) (H : wL_law_583 post L xs J x3 x4 x5 x7 x8 (if s / 4 % 2 = 1 then x10 + x16 * x5 else x10) (if s % 2 = 1 then x11 + x16 else x11) (if s / 4 % 2 = 1 ∧ x20 = 0 then x12 + 1 else x12) x13 x16 kc ks af a1 a2 a3 a4 a5 a6 a7 a8 a9 a10 a11 a12 a13 a14) : wL_law_407 post L xs J x3 x4 x5 x7 x10 x11 x12 x13 x16 (nI s) x20 1 x8 kc ks af a1 a2 a3 a4 a5 a6 a7 a8 a9 a10 a11 a12 a13 a14 := by
  refine br_f (by decide) (ek_if (rl_m4 s hs) (fun hb => ?_) (fun hb => ?_))
  · rw [if_neg (show ¬ s / 4 % 2 = 1 by omega)] at H
    unfold wL_law_432
    exact rl_L434 hs H
  · rw [if_pos (show s / 4 % 2 = 1 by omega)] at H
    exact rl_L434 hs H
theorem rl_L382 {af : Int32} {a1 a2 a3 a4 a5 a6 a7 a8 a9 a10 a11 a12 a13 a14 : Nat → Int32} {x3 x4 x5 x7 x10 x11 x12 x16 x20 : Int32} {x8 : Int64} (hs : s < 8) (H : wL_law_583 post L xs J x3 x4 x5 x7 (if s / 2 % 2 = 1 then x8 + x16.toInt64 else x8) (if s / 4 % 2 = 1 then x10 + x16 * x5 else x10) (if s % 2 = 1 then x11 + x16 else x11) (if s / 4 % 2 = 1 ∧ x20 = 0 then x12 + 1 else x12) x13 x16 kc ks af a1 a2 a3 a4 a5 a6 a7 a8 a9 a10 a11 a12 a13 a14) : wL_law_382 post L xs J x3 x4 x5 x8 x10 x11 x12 x13 x16 (nI s) x20 1 x7 kc ks af a1 a2 a3 a4 a5 a6 a7 a8 a9 a10 a11 a12 a13 a14 := by
  refine br_f (by decide) (ek_if (rl_m2 s hs) (fun hb => ?_) (fun hb => ?_))
  · rw [if_neg (show ¬ s / 2 % 2 = 1 by omega)] at H
    unfold wL_law_405
    exact rl_L407 hs H
  · rw [if_pos (show s / 2 % 2 = 1 by omega)] at H
    exact rl_L407 hs H
theorem rl_L341y {af : Int32} {a1 a2 a3 a4 a5 a6 a7 a8 a9 a10 a11 a12 a13 a14 : Nat → Int32} {x3 x4 x5 x7 x10 x11 x12 x16 x20 : Int32} {x8 : Int64} (hs : s < 8) (H : wL_law_583 post L xs J x3 x4 x5 (if s % 2 = 1 then x7 - x16 else x7) (if s / 2 % 2 = 1 then x8 + x16.toInt64 else x8) (if s / 4 % 2 = 1 then x10 + x16 * x5 else x10) (if s % 2 = 1 then x11 + x16 else x11) (if s / 4 % 2 = 1 ∧ x20 = 0 then x12 + 1 else x12) x13 x16 kc ks af a1 a2 a3 a4 a5 a6 a7 a8 a9 a10 a11 a12 a13 a14) : wL_law_341 post L xs J x3 x4 x5 x7 x8 x10 x11 x12 x13 x16 (nI s) x20 1 1 kc ks af a1 a2 a3 a4 a5 a6 a7 a8 a9 a10 a11 a12 a13 a14 := by
  refine br_f (by decide) (br_t rfl (br_f (by decide) (ek_if (rl_m1 s hs) (fun hb => ?_) (fun hb => ?_))))
  · rw [if_neg (show ¬ s % 2 = 1 by omega)] at H
    unfold wL_law_380
    refine rl_L382 hs ?_
    rw [if_neg (show ¬ s % 2 = 1 by omega)] at H ⊢
    exact H
  · rw [if_pos (show s % 2 = 1 by omega)] at H
    refine rl_L382 hs ?_
    rw [if_pos (show s % 2 = 1 by omega)] at H ⊢
    exact H
theorem rl_L341n {af : Int32} {a1 a2 a3 a4 a5 a6 a7 a8 a9 a10 a11 a12 a13 a14 : Nat → Int32} {x3 x4 x5 x7 x10 x11 x12 x16 x20 : Int32} {x8 : Int64} (hs : s < 8) (H : wL_law_583 post L xs J x3 x4 x5 x7 x8 x10 x11 (if s / 4 % 2 = 1 ∧ x20 = 0 then x12 + 1 else x12) x13 x16 kc ks af a1 a2 a3 a4 a5 a6 a7 a8 a9 a10 a11 a12 a13 a14) : wL_law_341 post L xs J x3 x4 x5 x7 x8 x10 x11 x12 x13 x16 (nI s) x20 0 0 kc ks af a1 a2 a3 a4 a5 a6 a7 a8 a9 a10 a11 a12 a13 a14 := by
  refine br_t rfl (br_t rfl (br_t rfl ?_))
  unfold wL_law_380
  refine br_t rfl ?_
  unfold wL_law_405
  refine br_t rfl ?_
  unfold wL_law_432
  refine br_t rfl ?_
  unfold wL_law_456
  exact rl_L458 hs H
/-- the call: askAll of a set, or ask of one meter -/
def rl_kind (kd s : Nat) (x15 : Int32) : Prop := kd < 16 ∧ s < 8 ∧ (kd < 8 → ∃ m, m < 3 ∧ s = 2 ^ m ∧ (x15 &&& 7) - (x15 &&& 7) / 3 * 3 = nI m)
theorem rl_ask {m : Nat} {u : St1} {post : Int32 → St1 → Prop} (hm : m < 3) (h : rl_I b0 b1 R B S N T n A g d u) (hc1 : 1 ≤ c) (hc2 : c ≤ 20) (hy : rl_all (2 ^ m) c B S T n A → ∀ u', rl_Y (2 ^ m) c R B S N T n A g d u' → post 1 u') (hn : ¬ rl_all (2 ^ m) c B S T n A → ∀ u', rl_X (2 ^ m) c R B S N T n A g d u' → post 0 u') : wpX_ask post u (nI m) (nI c) := by
  have hm' : m = 0 ∨ m = 1 ∨ m = 2 := by omega
  rcases hm' with e | e | e
  · subst e
    exact rl_ask0 h hc1 hc2 hy hn
  · subst e
    exact rl_ask1 h hc1 hc2 hy hn
  · subst e
    exact rl_ask2 h hc1 hc2 hy hn
theorem rl_L308 {af : Int32} {a1 a2 a3 a4 a5 a6 a7 a8 a9 a10 a11 a12 a13 a14 : Nat → Int32} {x14 x15 x20 z0 : Int32} {kd : Nat} (h : rl_I b0 b1 R B S N T n A g d (af, a1, a2, a3, a4, a5, a6, a7, a8, a9, a10, a11, a12, a13, a14)) (hk : rl_kind kd s x15) (e14 : x14 = nI kd) (hc1 : 1 ≤ c) (hc2 : c ≤ 20) (hz : rl_all s c B S T n A ∧ z0 = 1 ∨ ¬ rl_all s c B S T n A ∧ z0 = 0) (h20 : x20 = 0 ↔ ¬ A + (c : Int) * S ≤ B * S)
    (hJ : ∀ T' n' A' g' d' u', rl_I false false R B S N T' n' A' g' d' u' → rl_J J (rl_z T') (lN n') (rl_z A') g' d' (x13 + 2) u') : wL_law_308 post L xs J (rl_z R) (rl_z B) (rl_z S) (rl_z T) (lN n) (rl_z A) g d x13 x14 x15 (nI c) (nI s) x20 z0 kc ks af a1 a2 a3 a4 a5 a6 a7 a8 a9 a10 a11 a12 a13 a14 := by
  obtain ⟨k1, k2, k3⟩ := hk
  have Y : rl_all s c B S T n A → ∀ u', rl_Y s c R B S N T n A g d u' → (fun (r : Int32) (u : St1) => match u with | (ef, e1, e2, e3, e4, e5, e6, e7, e8, e9, e10, e11, e12, e13, e14) => wL_law_341 post L xs J (rl_z R) (rl_z B) (rl_z S) (rl_z T) (lN n) (rl_z A) g d x13 (nI c) (nI s) x20 z0 r kc ks ef e1 e2 e3 e4 e5 e6 e7 e8 e9 e10 e11 e12 e13 e14) 1 u' := by
    intro hall u' h'
    rcases hz with ⟨_, hz⟩ | ⟨hz, _⟩
    · subst hz
      obtain ⟨ef, e1, e2, e3, e4, e5, e6, e7, e8, e9, e10, e11, e12, e13, e14⟩ := u'
      refine rl_L341y k2 ?_
      have e7 : (if s % 2 = 1 then rl_z T - nI c else rl_z T) = rl_z (if s % 2 = 1 then T - c else T) := by
        by_cases hb : s % 2 = 1
        · rw [if_pos hb, if_pos hb, rl_zn, rl_sub]
        · rw [if_neg hb, if_neg hb]
      have e8 : (if s / 2 % 2 = 1 then lN n + (nI c).toInt64 else lN n) = lN (if s / 2 % 2 = 1 then n + c else n) := by
        by_cases hb : s / 2 % 2 = 1
        · rw [if_pos hb, if_pos hb, rl_plus (by omega)]
        · rw [if_neg hb, if_neg hb]
      have e10 : (if s / 4 % 2 = 1 then rl_z A + nI c * rl_z S else rl_z A) = rl_z (if s / 4 % 2 = 1 then A + c * S else A) := by
        by_cases hb : s / 4 % 2 = 1
        · rw [if_pos hb, if_pos hb, rl_zn, rl_mul, rl_add]
        · rw [if_neg hb, if_neg hb]
      rw [e7, e8, e10, if_neg (c := s / 4 % 2 = 1 ∧ x20 = 0) (fun z => h20.mp z.2 (hall.2.2 z.1))]
      exact rl_L583 h' hc1 hc2 (fun u'' h'' => hJ _ _ _ _ _ u'' h'')
    · exact absurd hall hz
  have X : ¬ rl_all s c B S T n A → ∀ u', rl_X s c R B S N T n A g d u' → (fun (r : Int32) (u : St1) => match u with | (ef, e1, e2, e3, e4, e5, e6, e7, e8, e9, e10, e11, e12, e13, e14) => wL_law_341 post L xs J (rl_z R) (rl_z B) (rl_z S) (rl_z T) (lN n) (rl_z A) g d x13 (nI c) (nI s) x20 z0 r kc ks ef e1 e2 e3 e4 e5 e6 e7 e8 e9 e10 e11 e12 e13 e14) 0 u' := by
    intro hall u' h'
    rcases hz with ⟨hz, _⟩ | ⟨_, hz⟩
    · exact absurd hz hall
    · subst hz
      obtain ⟨ef, e1, e2, e3, e4, e5, e6, e7, e8, e9, e10, e11, e12, e13, e14⟩ := u'
      refine rl_L341n k2 ?_
      have e12 : (if s / 4 % 2 = 1 ∧ x20 = 0 then d + 1 else d) = (if s / 4 % 2 = 1 ∧ ¬ A + (c : Int) * S ≤ B * S then d + 1 else d) := by
        by_cases hb : s / 4 % 2 = 1 ∧ x20 = 0
        · rw [if_pos hb, if_pos ⟨hb.1, h20.mp hb.2⟩]
        · rw [if_neg hb, if_neg (fun z => hb ⟨z.1, h20.mpr z.2⟩)]
      rw [e12]
      exact rl_L583 h' hc1 hc2 (fun u'' h'' => hJ _ _ _ _ _ u'' h'')
  refine pk_le 8 kd (fun z => rl_askAll h k2 hc1 hc2 Y X) (fun z => ⟨by decide, ?_⟩) rfl e14
  obtain ⟨m, m1, m2, m3⟩ := k3 z
  subst m2
  rw [m3]
  exact rl_ask m1 h hc1 hc2 Y X
theorem rl_L265 {af : Int32} {a1 a2 a3 a4 a5 a6 a7 a8 a9 a10 a11 a12 a13 a14 : Nat → Int32} {x14 x15 x18 x19 x20 : Int32} {kd : Nat} (h : rl_I b0 b1 R B S N T n A g d (af, a1, a2, a3, a4, a5, a6, a7, a8, a9, a10, a11, a12, a13, a14)) (hk : rl_kind kd s x15) (e14 : x14 = nI kd) (hc1 : 1 ≤ c) (hc2 : c ≤ 20) (h18 : x18 = 0 ↔ ¬ (c : Int) ≤ T) (h19 : x19 = 0 ↔ ¬ rl_lg n S 0 + (c : Int) ≤ B) (h20 : x20 = 0 ↔ ¬ A + (c : Int) * S ≤ B * S)
    (hJ : ∀ T' n' A' g' d' u', rl_I false false R B S N T' n' A' g' d' u' → rl_J J (rl_z T') (lN n') (rl_z A') g' d' (x13 + 2) u') : wL_law_265 post L xs J (rl_z R) (rl_z B) (rl_z S) (rl_z T) (lN n) (rl_z A) g d x13 x14 x15 (nI c) (nI s) x18 x19 x20 kc ks af a1 a2 a3 a4 a5 a6 a7 a8 a9 a10 a11 a12 a13 a14 := by
  have hs := hk.2.1
  have Y : rl_all s c B S T n A → wL_law_303 post L xs J (rl_z R) (rl_z B) (rl_z S) (rl_z T) (lN n) (rl_z A) g d x13 x14 x15 (nI c) (nI s) x20 kc ks af a1 a2 a3 a4 a5 a6 a7 a8 a9 a10 a11 a12 a13 a14 := by
    intro hall
    unfold wL_law_303
    exact rl_L308 h hk e14 hc1 hc2 (Or.inl ⟨hall, rfl⟩) h20 hJ
  have X : ¬ rl_all s c B S T n A → wL_law_307 post L xs J (rl_z R) (rl_z B) (rl_z S) (rl_z T) (lN n) (rl_z A) g d x13 x14 x15 (nI c) (nI s) x20 kc ks af a1 a2 a3 a4 a5 a6 a7 a8 a9 a10 a11 a12 a13 a14 := by
    intro hall
    unfold wL_law_307
    exact rl_L308 h hk e14 hc1 hc2 (Or.inr ⟨hall, rfl⟩) h20 hJ
  have K2 : (s % 2 = 1 → (c : Int) ≤ T) → (s / 2 % 2 = 1 → rl_lg n S 0 + (c : Int) ≤ B) → wL_law_291 post L xs J (rl_z R) (rl_z B) (rl_z S) (rl_z T) (lN n) (rl_z A) g d x13 x14 x15 (nI c) (nI s) x20 kc ks af a1 a2 a3 a4 a5 a6 a7 a8 a9 a10 a11 a12 a13 a14 := fun g0 g1 =>
    ek_if (rl_m4 s hs) (fun hb => Y ⟨g0, g1, fun z => absurd z (by omega)⟩) (fun hb => ek_if h20 (fun z => X (fun y => z (y.2.2 (by omega)))) (fun z => Y ⟨g0, g1, fun _ => Decidable.not_not.mp z⟩))
  have K1 : (s % 2 = 1 → (c : Int) ≤ T) → wL_law_279 post L xs J (rl_z R) (rl_z B) (rl_z S) (rl_z T) (lN n) (rl_z A) g d x13 x14 x15 (nI c) (nI s) x19 x20 kc ks af a1 a2 a3 a4 a5 a6 a7 a8 a9 a10 a11 a12 a13 a14 := fun g0 =>
    ek_if (rl_m2 s hs) (fun hb => K2 g0 (fun z => absurd z (by omega))) (fun hb => ek_if h19 (fun z => X (fun y => z (y.2.1 (by omega)))) (fun z => K2 g0 (fun _ => Decidable.not_not.mp z)))
  exact ek_if (rl_m1 s hs) (fun hb => K1 (fun z => absurd z (by omega))) (fun hb => ek_if h18 (fun z => X (fun y => z (y.1 (by omega)))) (fun z => K1 (fun _ => Decidable.not_not.mp z)))
theorem rl_fl0 {P : Prop} (h : ¬ P) : (0 : Int32) = 0 ↔ ¬ P := ⟨fun _ => h, fun _ => rfl⟩
theorem rl_fl1 {P : Prop} (h : P) : (1 : Int32) = 0 ↔ ¬ P := ⟨fun z => absurd z (by decide), fun z => absurd h z⟩
theorem rl_L219 {af : Int32} {a1 a2 a3 a4 a5 a6 a7 a8 a9 a10 a11 a12 a13 a14 : Nat → Int32} {x14 x15 x18 : Int32} {kd : Nat} (h : rl_I b0 b1 R B S N T n A g d (af, a1, a2, a3, a4, a5, a6, a7, a8, a9, a10, a11, a12, a13, a14)) (hk : rl_kind kd s x15) (e14 : x14 = nI kd) (hc1 : 1 ≤ c) (hc2 : c ≤ 20) (h18 : x18 = 0 ↔ ¬ (c : Int) ≤ T)
    (hJ : ∀ T' n' A' g' d' u', rl_I false false R B S N T' n' A' g' d' u' → rl_J J (rl_z T') (lN n') (rl_z A') g' d' (x13 + 2) u') : wL_law_219 post L xs J (rl_z R) (rl_z B) (rl_z S) (rl_z T) (lN n) (rl_z A) g d x13 x14 x15 (nI c) (nI s) x18 kc ks af a1 a2 a3 a4 a5 a6 a7 a8 a9 a10 a11 a12 a13 a14 := by
  have hBS := rl_BS (rl_I_P h)
  obtain ⟨p1, p2, p3, p4, p5, p6, p7⟩ := rl_I_P h
  have hlb := rl_lg_b n S 0
  have hcS := rl_mulb (R := (c : Int)) (x := S) (r := 20) (X := 10) (by omega) (by omega) (by omega) (by omega) (by omega)
  have K : ∀ x19 : Int32, (x19 = 0 ↔ ¬ rl_lg n S 0 + (c : Int) ≤ B) → wL_law_242 post L xs J (rl_z R) (rl_z B) (rl_z S) (rl_z T) (lN n) (rl_z A) g d x13 x14 x15 (nI c) (nI s) x18 x19 kc ks af a1 a2 a3 a4 a5 a6 a7 a8 a9 a10 a11 a12 a13 a14 := by
    intro x19 h19
    refine rl_blt (B * S) (A + c * S) (fun ho => ?_) (fun ho => ?_) (by rw [rl_mul]) (by rw [rl_zn, rl_mul, rl_add])
    · exact rl_L265 h hk e14 hc1 hc2 h18 h19 (rl_fl0 (by omega)) hJ
    · exact rl_L265 h hk e14 hc1 hc2 h18 h19 (rl_fl1 ho) hJ
  unfold wL_law_219
  refine rl_logged (w := 0) p6 p3 ⟨by omega, by omega⟩ (rl_blt B (rl_lg n S 0 + c) (fun ho => K 0 (rl_fl0 (by omega))) (fun ho => K 1 (rl_fl1 ho)) rfl (by rw [rl_zn, rl_add]))
theorem rl_L518 {U : Nat} {af : Int32} {a1 a2 a3 a4 a5 a6 a7 a8 a9 a10 a11 a12 a13 a14 : Nat → Int32} (h : rl_I false false R B S N T n A g d (af, a1, a2, a3, a4, a5, a6, a7, a8, a9, a10, a11, a12, a13, a14)) (hN : N + 31 ≤ 5000) (hU : U ≤ 31) (hc1 : 1 ≤ c) (hc2 : c ≤ 20)
    (hJ : ∀ N' T' n' A' g' d' u', N' ≤ N + 31 → rl_I false false R B S N' T' n' A' g' d' u' → rl_J J (rl_z T') (lN n') (rl_z A') g' d' (x13 + 2) u') : ∃ f, wL_law_518 post L xs J (rl_z R) (rl_z B) (rl_z S) g d x13 (nI c) (nI U) kc ks (rl_z (N + U)) a1 a2 a3 a4 a5 a6 a7 a8 a9 a10 a11 a12 a13 a14 f (rl_z T) (lN n) (rl_z A) 0 := by
  obtain ⟨p1, p2, p3, p4, p5, p6, p7⟩ := rl_I_P h
  refine pk_loop (σ := Int32 × Int64 × Int32) (fun f i s => wL_law_518 post L xs J (rl_z R) (rl_z B) (rl_z S) g d x13 (nI c) (nI U) kc ks (rl_z (N + U)) a1 a2 a3 a4 a5 a6 a7 a8 a9 a10 a11 a12 a13 a14 f s.1 s.2.1 s.2.2 (nI i)) (fun i s => ∃ (T' : Int) (n' : Nat) (A' : Int), s = (rl_z T', lN n', rl_z A') ∧ rl_I false false R B S (N + (min i U : Nat)) T' n' A' g d (rl_z (N + (min i U : Nat)), a1, a2, a3, a4, a5, a6, a7, a8, a9, a10, a11, a12, a13, a14)) 31 0 (rl_z T, lN n, rl_z A) (by omega) ?_ ?_ ?_
  · refine ⟨T, n, A, rfl, ?_⟩
    have hf := h.2.1
    rw [show N + ((min 0 U : Nat) : Int) = N by omega, ← hf]
    exact h
  · intro f s hs
    obtain ⟨T', n', A', rfl, hI⟩ := hs
    rw [show N + ((min 31 U : Nat) : Int) = N + U by omega] at hI
    exact br_t (nI_le (a := 31) (b := 31) (by decide) (by decide)) (rl_L583 hI hc1 hc2 (fun u' h' => hJ _ _ _ _ _ _ u' (by omega) h'))
  · intro f i s hi hs hk
    obtain ⟨T', n', A', rfl, hI⟩ := hs
    obtain ⟨q1, q2, q3, q4, q5, q6, q7⟩ := rl_I_P hI
    have hBS := rl_BS (rl_I_P hI)
    refine br_f (nI_ge (b := 31) hi (by decide)) (pk_le U i (fun hc => nm_r (nI_1 i) ?_) (fun hc => ?_))
    · refine hk (rl_z T', lN n', rl_z A') ⟨T', n', A', rfl, ?_⟩
      rw [show min (i + 1) U = min i U by omega]
      exact hI
    · have hI' := rl_I_tick hI (by omega)
      rw [show N + ((min i U : Nat) : Int) + 1 = N + ((min (i + 1) U : Nat) : Int) by omega] at hI'
      have hk' := hk (rl_z (min B (T' + R)), lN (n' * 32 % 2 ^ 50), rl_z (max 0 (A' - 1))) ⟨_, _, _, rfl, hI'⟩
      have K : ∀ z0 : Int32, z0 = rl_z (min B (T' + R)) → wL_law_550 post L xs J (wL_law_518 post L xs J (rl_z R) (rl_z B) (rl_z S) g d x13 (nI c) (nI U) kc ks (rl_z (N + U)) a1 a2 a3 a4 a5 a6 a7 a8 a9 a10 a11 a12 a13 a14 f) (rl_z R) (rl_z B) (rl_z S) (lN n') (rl_z A') g d x13 (nI c) (nI U) (nI i) z0 kc ks (rl_z (N + U)) a1 a2 a3 a4 a5 a6 a7 a8 a9 a10 a11 a12 a13 a14 := by
        intro z0 hz
        subst hz
        refine nm_r (rl_shl q6) (rl_ble A' 0 (fun ho => nm_r (nI_1 i) ?_) (fun ho => nm_r (e' := rl_z (A' - 1)) (rl_sub A' 1) (nm_r (nI_1 i) ?_)))
        · rw [show max 0 (A' - 1) = 0 by omega] at hk'
          exact hk'
        · rw [show max 0 (A' - 1) = A' - 1 by omega] at hk'
          exact hk'
      refine rl_ble (T' + R) B (fun ho => K _ ?_) (fun ho => K _ ?_) (by rw [rl_add])
      · rw [rl_add, show min B (T' + R) = T' + R by omega]
      · rw [show min B (T' + R) = B by omega]
theorem rl_L198 {af : Int32} {a1 a2 a3 a4 a5 a6 a7 a8 a9 a10 a11 a12 a13 a14 : Nat → Int32} {x14 x15 : Int32} {kd : Nat} (h : rl_I false false R B S N T n A g d (af, a1, a2, a3, a4, a5, a6, a7, a8, a9, a10, a11, a12, a13, a14)) (hN : N + 31 ≤ 5000) (hk : rl_kind kd s x15) (e14 : x14 = nI kd) (hc1 : 1 ≤ c) (hc2 : c ≤ 20)
    (hJ : ∀ N' T' n' A' g' d' u', N' ≤ N + 31 → rl_I false false R B S N' T' n' A' g' d' u' → rl_J J (rl_z T') (lN n') (rl_z A') g' d' (x13 + 2) u') : wL_law_198 post L xs J (rl_z R) (rl_z B) (rl_z S) (rl_z T) (lN n) (rl_z A) g d x13 x14 x15 (nI c) (nI s) kc ks af a1 a2 a3 a4 a5 a6 a7 a8 a9 a10 a11 a12 a13 a14 := by
  obtain ⟨p1, p2, p3, p4, p5, p6, p7⟩ := rl_I_P h
  have hkd := hk.1
  have P : ∀ U : Nat, U ≤ 31 → wL_law_506 post L xs J (rl_z R) (rl_z B) (rl_z S) (rl_z T) (lN n) (rl_z A) g d x13 (nI c) (nI U) kc ks af a1 a2 a3 a4 a5 a6 a7 a8 a9 a10 a11 a12 a13 a14 := by
    intro U hU
    unfold wL_law_506
    exact rl_pass h hU (fun r => rl_L518 h hN hU hc1 hc2 hJ)
  refine pk_le 11 kd (fun z => br_c (fun _ => ?_) (fun _ => ?_)) (fun z => rl_blt T c (fun ho => ?_) (fun ho => ?_) rfl (rl_zn c)) rfl e14
  · obtain ⟨U, hU, eU⟩ := pk_andE x15 (m := 3) 2 (by decide)
    rw [eU]
    exact P U (by omega)
  · obtain ⟨U, hU, eU⟩ := pk_andE x15 (m := 31) 5 (by decide)
    rw [eU]
    exact P U (by omega)
  · exact rl_L219 h hk e14 hc1 hc2 (rl_fl0 (by omega)) (fun T' n' A' g' d' u' h' => hJ N T' n' A' g' d' u' (by omega) h')
  · exact rl_L219 h hk e14 hc1 hc2 (rl_fl1 ho) (fun T' n' A' g' d' u' h' => hJ N T' n' A' g' d' u' (by omega) h')
theorem rl_L170 {af : Int32} {a1 a2 a3 a4 a5 a6 a7 a8 a9 a10 a11 a12 a13 a14 : Nat → Int32} {x14 x15 z0 z1 : Int32} {kd y j : Nat} (h : rl_I false false R B S N T n A g d (af, a1, a2, a3, a4, a5, a6, a7, a8, a9, a10, a11, a12, a13, a14)) (hN : N + 31 ≤ 5000) (hkd : kd < 16) (e14 : x14 = nI kd) (hy : 0 < y ∧ y ≤ 20) (ez0 : z0 = nI y) (hj : j < 256) (ez1 : z1 = nI j)
    (hJ : ∀ N' T' n' A' g' d' u', N' ≤ N + 31 → rl_I false false R B S N' T' n' A' g' d' u' → rl_J J (rl_z T') (lN n') (rl_z A') g' d' (x13 + 2) u') : wL_law_170 post L xs J (rl_z R) (rl_z B) (rl_z S) (rl_z T) (lN n) (rl_z A) g d x13 x14 x15 z0 z1 1 kc ks af a1 a2 a3 a4 a5 a6 a7 a8 a9 a10 a11 a12 a13 a14 := by
  subst ez0 ez1
  have hm : j % y < y := Nat.mod_lt _ hy.1
  obtain ⟨i, hi, ei⟩ := pk_andE x15 (m := 7) 3 (by decide)
  have er : (x15 &&& 7) - (x15 &&& 7) / 3 * 3 = nI (i % 3) := by
    rw [ei]
    exact pk_rem (d := 3) (by omega) (by decide) (by decide)
  refine ⟨nI_ne0 hy.1 (by omega), nm_r (e' := nI (1 + j % y)) ?_ ?_⟩
  · rw [pk_rem (by omega) hy.1 (by omega)]
    exact nI_add 1 _
  · refine pk_le 8 kd (fun z => ?_) (fun z => ⟨by decide, ?_⟩) rfl e14
    · rw [ei]
      exact rl_L198 h hN ⟨hkd, hi, fun w => absurd w (by omega)⟩ e14 (by omega) (by omega) hJ
    · have hm3 : i % 3 < 3 := Nat.mod_lt _ (by decide)
      rw [er, rl_sh _ hm3]
      refine rl_L198 h hN ⟨hkd, ?_, fun w => ⟨i % 3, hm3, rfl, er⟩⟩ e14 (by omega) (by omega) hJ
      have h3 : i % 3 = 0 ∨ i % 3 = 1 ∨ i % 3 = 2 := by omega
      rcases h3 with e | e | e
      · rw [e]; decide
      · rw [e]; decide
      · rw [e]; decide
end
end
section
/-! start, set, the constructor -/
theorem rl_start {post : St1 → Prop} {af : Int32} {a1 a2 a3 a4 a5 a6 a7 a8 a9 a10 a11 a12 a13 a14 : Nat → Int32} {p0 p1 p2 p3 p4 : Int32} {m : Nat} (hin : vp_in p0 4) (hm : p0.toNatClampNeg = m) (hp : post (af, upd a1 m p1, upd a2 m p2, upd a3 m p3, upd a4 m p4, upd a5 m 0, upd a6 m 0, upd a7 m p3, upd a8 m af, upd a9 m (-1000000), upd a10 m 0, upd a11 m 0, upd a12 m 0, a13, a14)) : wpX_start post (af, a1, a2, a3, a4, a5, a6, a7, a8, a9, a10, a11, a12, a13, a14) p0 p1 p2 p3 p4 := by
  subst hm
  exact ⟨hin, nm_e ⟨hin, nm_e ⟨hin, nm_e ⟨hin, nm_e ⟨hin, nm_e ⟨hin, nm_e ⟨hin, nm_e ⟨hin, nm_e ⟨hin, nm_e ⟨hin, nm_e ⟨hin, nm_e ⟨hin, nm_e hp⟩⟩⟩⟩⟩⟩⟩⟩⟩⟩⟩⟩
def rl_S (R B S : Int) (m : Nat) (kk : Int32) (u : St1) : Prop := match u with
  | (af, a1, a2, a3, a4, a5, a6, a7, a8, a9, a10, a11, a12, a13, a14) => a1 m = kk ∧ a2 m = rl_z R ∧ a3 m = rl_z B ∧ a4 m = rl_z S ∧ a5 m = 0 ∧ a6 m = 0 ∧ a7 m = rl_z B ∧ a8 m = af ∧ a9 m = -1000000 ∧ a10 m = 0 ∧ a11 m = 0 ∧ a12 m = 0
theorem rl_set {post : Int32 → St1 → Prop} {u : St1} {p0 p1 num : Int32} {m r b s : Nat} (hin : vp_in p0 4) (h0 : ¬ p0 < 0) (h4 : p0 < 4) (hm : p0.toNatClampNeg = m) (k0 : ¬ p1 < 0) (k2 : p1 ≤ 2) (hr : 1 ≤ r ∧ r ≤ 5) (hb : 1 ≤ b ∧ b ≤ 30) (hs : 1 ≤ s ∧ s ≤ 10) (hn : num = nI (r + 8 * b + 256 * s))
    (hp : ∀ u', u'.1 = u.1 → rl_S r b s m p1 u' → (∀ m' k', m' ≠ m → rl_S r b s m' k' u → rl_S r b s m' k' u') → post 0 u') : wpX_set post u p0 p1 num := by
  obtain ⟨af, a1, a2, a3, a4, a5, a6, a7, a8, a9, a10, a11, a12, a13, a14⟩ := u
  subst hn
  unfold wpX_set
  refine rl_bad h0 h4 (br_t rfl (br_f k0 (br_t k2 (nm_r (e' := nI r) ?_ (nm_r (e' := nI b) ?_ (nm_r (e' := nI s) ?_ ?_))))))
  · rw [pk_andN (by omega) 3 (by decide), show (r + 8 * b + 256 * s) % 2 ^ 3 = r by omega]
  · rw [pk_shrN (by omega) _ 3 (by decide), pk_andN (by omega) 5 (by decide), show (r + 8 * b + 256 * s) / 2 ^ 3 % 2 ^ 5 = b by omega]
  · rw [pk_shrN (by omega) _ 8 (by decide), pk_andN (by omega) 4 (by decide), show (r + 8 * b + 256 * s) / 2 ^ 8 % 2 ^ 4 = s by omega]
  · refine br_f (nI_nlt (b := 1) hr.1 (by omega)) (br_f (nI_nlt (a := 5) hr.2 (by decide)) (br_f (nI_nlt (b := 1) hb.1 (by omega)) (br_f (nI_nlt (a := 30) hb.2 (by decide)) (br_f (nI_nlt (b := 1) hs.1 (by omega)) (br_t (nI_le (b := 10) hs.2 (by decide)) (rl_start hin hm (hp _ rfl ?_ ?_)))))))
    · exact ⟨pk_us, by rw [pk_us, rl_zn], by rw [pk_us, rl_zn], by rw [pk_us, rl_zn], pk_us, pk_us, by rw [pk_us, rl_zn], pk_us, pk_us, pk_us, pk_us, pk_us⟩
    · intro m' k' hne h
      obtain ⟨q1, q2, q3, q4, q5, q6, q7, q8, q9, q10, q11, q12⟩ := h
      exact ⟨by rw [pk_un hne, q1], by rw [pk_un hne, q2], by rw [pk_un hne, q3], by rw [pk_un hne, q4], by rw [pk_un hne, q5], by rw [pk_un hne, q6], by rw [pk_un hne, q7], by rw [pk_un hne, q8], by rw [pk_un hne, q9], by rw [pk_un hne, q10], by rw [pk_un hne, q11], by rw [pk_un hne, q12]⟩
def rl_108 (post : St1 → Prop) (k : Nat) (x1 : Int32) (u : St1) : Prop := match u with
  | (af, a1, a2, a3, a4, a5, a6, a7, a8, a9, a10, a11, a12, a13, a14) => wX_init_108 post 14 304 14 304 k x1 af a1 a2 a3 a4 a5 a6 a7 a8 a9 a10 a11 a12 a13 a14
theorem rl_init {post : St1 → Prop} (hp : ∀ u' : St1, u'.1 = 0 → post u') : wpX_init post 14 304 0 := by
  unfold wpX_init
  refine ⟨by decide, by decide, by decide, by decide, by decide, by decide, by decide, by decide, by decide, by decide, by decide, by decide, by decide, by decide, by decide, by decide, by decide, by decide, by decide, by decide, by decide, by decide, by decide, by decide, by decide, by decide, by decide, by decide, ?_⟩
  refine pk_loop (σ := St1) (fun k i u => rl_108 post k (nI i) u) (fun _ u => u.1 = 0) 4 0 (0, fun _ => 0, fun _ => 0, fun _ => 0, fun _ => 0, fun _ => 0, fun _ => 0, fun _ => 0, fun _ => 0, fun _ => 0, fun _ => 0, fun _ => 0, fun _ => 0, fun _ => 0, fun _ => 0) (by omega) rfl (fun k u h => ?_) (fun k i u hi h hk => ?_)
  · obtain ⟨af, a1, a2, a3, a4, a5, a6, a7, a8, a9, a10, a11, a12, a13, a14⟩ := u
    exact br_t (nI_le (a := 4) (b := 4) (by decide) (by decide)) (hp _ h)
  · obtain ⟨af, a1, a2, a3, a4, a5, a6, a7, a8, a9, a10, a11, a12, a13, a14⟩ := u
    refine br_f (nI_ge (b := 4) hi (by decide)) (rl_start (vp_in_nI hi (by decide)) (nI_clamp (by omega)) (nm_r (nI_1 i) ?_))
    exact hk (af, _, _, _, _, _, _, _, _, _, _, _, _, _, _) h
theorem rl_I_0 {R B S : Int} {u : St1} (hR : 1 ≤ R ∧ R ≤ 5) (hB : 1 ≤ B ∧ B ≤ 30) (hS : 1 ≤ S ∧ S ≤ 10) (h0 : u.1 = 0) (s0 : rl_S R B S 0 0 u) (s1 : rl_S R B S 1 1 u) (s2 : rl_S R B S 2 2 u) : rl_I false false R B S 0 B 0 0 0 0 u := by
  obtain ⟨af, a1, a2, a3, a4, a5, a6, a7, a8, a9, a10, a11, a12, a13, a14⟩ := u
  have hf : af = 0 := h0
  obtain ⟨q1, q2, q3, q4, q5, q6, q7, q8, q9, q10, q11, q12⟩ := s0
  obtain ⟨r1, r2, r3, r4, r5, r6, r7, r8, r9, r10, r11, r12⟩ := s1
  obtain ⟨t1, t2, t3, t4, t5, t6, t7, t8, t9, t10, t11, t12⟩ := s2
  refine ⟨⟨hR, hB, hS, by omega, by omega, by omega, Int.le_refl 0, Int.mul_nonneg (by omega) (by omega)⟩, ?_, ⟨q1, r1, t1, q2, q3, r3, t3, r4, t4, q11, t11⟩, ?_, ?_, ?_, q5, t6⟩
  · rw [hf, rl_z0]
  · exact rl_T_in q7 (by rw [q8, hf, rl_z0]) (by omega) (Int.le_refl 0)
  · refine ⟨0, [], r10, r11, ?_, trivial, trivial, ?_, fun i hi hs => ?_, fun z => absurd z (by decide)⟩
    · rw [r12]
      exact rl_z0.symm
    · show (0 : Int) ≤ B
      omega
    · unfold rl_ln
      rw [Nat.zero_div]
      rfl
  · refine ⟨-1000000, ?_, by omega, by omega⟩
    rw [t9]
    decide
end
section
/-! the law's loop and its head -/
theorem rl_L121 {post : Int32 → Prop} {L : Nat} {xs : Nat → Int32} {R B S : Int} {kc ks : Nat} (hL : L ≤ 260) (hp : post 1) : ∀ (f k : Nat) (N T : Int) (n : Nat) (A : Int) (g d : Int32) (u : St1), 1 ≤ k → k ≤ L + 2 → L + 2 < k + f → N ≤ 16 * (k : Int) → rl_I false false R B S N T n A g d u → rl_J (wL_law_121 post L xs (rl_z R) (rl_z B) (rl_z S) kc ks f) (rl_z T) (lN n) (rl_z A) g d (nI k) u := by
  intro f
  induction f with
  | zero =>
    intro k N T n A g d u h1 h2 h3
    omega
  | succ f ih =>
    intro k N T n A g d u h1 h2 h3 hN h
    obtain ⟨af, a1, a2, a3, a4, a5, a6, a7, a8, a9, a10, a11, a12, a13, a14⟩ := u
    refine pk_le L (k + 1) (fun _ => hp) (fun hk => ⟨vp_in_nI (by omega) (by omega), fun x14 e14 => ⟨?_, fun x15 e15 => ?_⟩⟩) rfl (nI_1 k)
    · rw [nI_1]
      exact vp_in_nI (by omega) (by omega)
    · obtain ⟨kd, hkd, ekd⟩ := pk_andE (xs (nI k).toNatClampNeg) (m := 15) 4 (by decide)
      obtain ⟨j, hj, ej⟩ := pk_andE (x15 >>> ((3 : Int32) &&& 31)) (m := 255) 8 (by decide)
      have e14' : x14 = nI kd := e14.trans ekd
      have hJ : ∀ N' T' n' A' g' d' u', N' ≤ N + 31 → rl_I false false R B S N' T' n' A' g' d' u' → rl_J (wL_law_121 post L xs (rl_z R) (rl_z B) (rl_z S) kc ks f) (rl_z T') (lN n') (rl_z A') g' d' (nI k + 2) u' := by
        intro N' T' n' A' g' d' u' hN' h'
        have e2 : nI k + 2 = nI (k + 2) := nI_add k 2
        rw [e2]
        exact ih (k + 2) N' T' n' A' g' d' u' (by omega) (by omega) (by omega) (by omega) h'
      refine br_c (fun _ => ?_) (fun _ => ?_)
      · exact rl_L170 (y := 4) h (by omega) hkd e14' (by omega) rfl hj ej hJ
      · exact rl_L170 (y := 20) h (by omega) hkd e14' (by omega) rfl hj ej hJ
theorem rl_L21 {post : Int32 → Prop} {L : Nat} {xs : Nat → Int32} {z0 : Int32} {kc ks : Nat} {af : Int32} {a1 a2 a3 a4 a5 a6 a7 a8 a9 a10 a11 a12 a13 a14 : Nat → Int32} (hL : L ≤ 260) (hp : post 1) (hf : af = 0) : wL_law_21 post L xs z0 kc ks af a1 a2 a3 a4 a5 a6 a7 a8 a9 a10 a11 a12 a13 a14 := by
  obtain ⟨j1, hj1, e1⟩ := pk_andE z0 (m := 15) 4 (by decide)
  obtain ⟨j2, hj2, e2⟩ := pk_andE (z0 >>> ((4 : Int32) &&& 31)) (m := 255) 8 (by decide)
  obtain ⟨j3, hj3, e3⟩ := pk_andE (z0 >>> ((12 : Int32) &&& 31)) (m := 15) 4 (by decide)
  obtain ⟨r, hr, er⟩ : ∃ r : Nat, (1 ≤ r ∧ r ≤ 5) ∧ 1 + j1 % 5 = r := ⟨_, by omega, rfl⟩
  obtain ⟨b, hb, eb⟩ : ∃ r : Nat, (1 ≤ r ∧ r ≤ 30) ∧ 1 + j2 % 30 = r := ⟨_, by omega, rfl⟩
  obtain ⟨s, hs, es⟩ : ∃ r : Nat, (1 ≤ r ∧ r ≤ 10) ∧ 1 + j3 % 10 = r := ⟨_, by omega, rfl⟩
  refine ⟨by decide, nm_r (e' := rl_z (r : Int)) ?_ ⟨by decide, nm_r (e' := rl_z (b : Int)) ?_ ⟨by decide, nm_r (e' := rl_z (s : Int)) ?_ (nm_r (e' := nI (r + 8 * b + 256 * s)) ?_ ?_)⟩⟩⟩
  · have h := pk_rem (a := j1) (d := 5) (by omega) (by decide) (by decide)
    have h' : nI j1 - nI j1 / 5 * 5 = nI (j1 % 5) := h
    rw [e1, h', ← rl_zn, ← er]
    exact nI_add 1 _
  · have h := pk_rem (a := j2) (d := 30) (by omega) (by decide) (by decide)
    have h' : nI j2 - nI j2 / 30 * 30 = nI (j2 % 30) := h
    rw [e2, h', ← rl_zn, ← eb]
    exact nI_add 1 _
  · have h := pk_rem (a := j3) (d := 10) (by omega) (by decide) (by decide)
    have h' : nI j3 - nI j3 / 10 * 10 = nI (j3 % 10) := h
    rw [e3, h', ← rl_zn, ← es]
    exact nI_add 1 _
  · rw [← rl_zn, ← rl_zn, ← rl_zn]
    have h8 : (8 : Int32) * nI b = nI (8 * b) := pk_mul 8 b
    have h256 : (256 : Int32) * nI s = nI (256 * s) := pk_mul 256 s
    rw [h8, h256, nI_add, nI_add]
  · refine rl_set rl_v0 (by decide) (by decide) rl_k0 (by decide) (by decide) hr hb hs rfl (fun u1 f1 s1 k1 => ?_)
    obtain ⟨ef, e1, e2, e3, e4, e5, e6, e7, e8, e9, e10, e11, e12, e13, e14⟩ := u1
    refine rl_set rl_v1 (by decide) (by decide) rl_k1 (by decide) (by decide) hr hb hs rfl (fun u2 f2 s2 k2 => ?_)
    obtain ⟨of, o1, o2, o3, o4, o5, o6, o7, o8, o9, o10, o11, o12, o13, o14⟩ := u2
    refine rl_set rl_v2 (by decide) (by decide) rl_k2 (by decide) (by decide) hr hb hs rfl (fun u3 f3 s3 k3 => ?_)
    obtain ⟨vf, v1, v2, v3, v4, v5, v6, v7, v8, v9, v10, v11, v12, v13, v14⟩ := u3
    have hf3 : vf = 0 := (f3.trans f2).trans (f1.trans hf)
    have hI := rl_I_0 (R := r) (B := b) (S := s) (by omega) (by omega) (by omega) hf3 (k3 0 0 (by decide) (k2 0 0 (by decide) s1)) (k3 1 1 (by decide) s2) s3
    exact ⟨L + 3, rl_L121 hL hp (L + 3) 1 0 b 0 0 0 0 _ (by omega) (by omega) (by omega) (by omega) hI⟩
theorem i_vc (xs : Nat → Int32) (L : Nat) (hL : L ≤ 260) : wpL_law (fun r => r = 1) L xs := by
  refine ⟨14, 304, by omega, by omega, rl_init (fun u hu => ?_)⟩
  obtain ⟨af, a1, a2, a3, a4, a5, a6, a7, a8, a9, a10, a11, a12, a13, a14⟩ := u
  refine pk_le L 0 (fun _ => rl_L21 hL rfl hu) (fun hl => ⟨vp_in_nI (n := 0) hl (by omega), rl_L21 hL rfl hu⟩)
end
