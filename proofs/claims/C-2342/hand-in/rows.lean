section
theorem pk_us {f : Nat → Int32} {k : Nat} {x : Int32} : upd f k x k = x := if_pos rfl
theorem pk_un {f : Nat → Int32} {k j : Nat} {x : Int32} (h : j ≠ k) : upd f k x j = f j := if_neg h
theorem pk_uLs {f : Nat → Int64} {k : Nat} {x : Int64} : vp_updL f k x k = x := if_pos rfl
theorem pk_uLn {f : Nat → Int64} {k j : Nat} {x : Int64} (h : j ≠ k) : vp_updL f k x j = f j := if_neg h
theorem pk_sub {a b : Nat} (h : b ≤ a) : nI a - nI b = nI (a - b) := by
  obtain ⟨c, rfl⟩ : ∃ c, a = c + b := ⟨a - b, by omega⟩
  rw [← nI_add, Int32.add_sub_cancel, Nat.add_sub_cancel]
theorem pk_m1 (n : Nat) : nI (n + 1) + (-1) = nI n := by
  rw [← nI_1, Int32.add_assoc, show (1 : Int32) + (-1) = 0 from rfl, Int32.add_zero]
theorem pk_mul (a b : Nat) : nI a * nI b = nI (a * b) := (Int32.ofNat_mul a b).symm
theorem pk_div {a d : Nat} (ha : a < 2 ^ 31) (h0 : 0 < d) (hd : d < 2 ^ 31) : nI a / nI d = nI (a / d) := by
  apply Int32.toInt_inj.mp
  rw [lg_idiv_nonneg (by rw [nI_toInt ha]; omega) (by rw [nI_toInt hd]; omega), nI_toInt ha, nI_toInt hd, nI_toInt (Nat.lt_of_le_of_lt (Nat.div_le_self a d) ha)]
  first | rfl | exact (Int.natCast_ediv _ _).symm
theorem pk_rem {a d : Nat} (ha : a < 2 ^ 31) (h0 : 0 < d) (hd : d < 2 ^ 31) : nI a - nI a / nI d * nI d = nI (a % d) := by
  rw [pk_div ha h0 hd, pk_mul, pk_sub (Nat.div_mul_le_self a d)]
  exact congrArg nI (by have := Nat.div_add_mod' a d; omega)
theorem pk_sub_toInt {a b : Nat} (ha : a < 2 ^ 30) (hb : b < 2 ^ 30) : (nI a - nI b).toInt = (a : Int) - b := by
  rw [Int32.toInt_sub, nI_toInt (by omega), nI_toInt (by omega)]
  exact Int.bmod_eq_of_le (by omega) (by omega)
theorem pk_sneg {a b : Nat} (hb : b < 2 ^ 30) (h : a < b) : nI a - nI b < 0 := by
  rw [Int32.lt_iff_toInt_lt, pk_sub_toInt (by omega) hb, show (0 : Int32).toInt = 0 from by decide]
  omega
theorem pk_ix (x : Int32) {n : Nat} (hn : n < 2 ^ 31) : x < 0 ∨ nI n ≤ x ∨ ∃ j : Nat, j < n ∧ x = nI j := by
  by_cases h : x < 0
  · exact Or.inl h
  · obtain ⟨j, hj, rfl⟩ := nI_of h
    by_cases h2 : j < n
    · exact Or.inr (Or.inr ⟨j, h2, rfl⟩)
    · exact Or.inr (Or.inl (nI_le (by omega) hj))
theorem pk_le {x y : Int32} {A B : Prop} (a b : Nat) (f : a ≤ b → A) (g : b < a → B) (hx : x = nI a := by rfl) (hy : y = nI b := by rfl) (ha : a < 2 ^ 31 := by omega) (hb : b < 2 ^ 31 := by omega) : (x ≤ y → A) ∧ (¬ x ≤ y → B) := by
  subst hx hy
  rw [nI_leI ha hb]
  exact ⟨f, fun z => g (by omega)⟩
theorem pk_lt {x y : Int32} {A B : Prop} (a b : Nat) (f : a < b → A) (g : b ≤ a → B) (hx : x = nI a := by rfl) (hy : y = nI b := by rfl) (ha : a < 2 ^ 31 := by omega) (hb : b < 2 ^ 31 := by omega) : (x < y → A) ∧ (¬ x < y → B) := by
  subst hx hy
  rw [nI_ltI ha hb]
  exact ⟨f, fun z => g (by omega)⟩
theorem pk_eq {x y : Int32} {A B : Prop} (a b : Nat) (f : a = b → A) (g : a ≠ b → B) (hx : x = nI a := by rfl) (hy : y = nI b := by rfl) (ha : a < 2 ^ 31 := by omega) (hb : b < 2 ^ 31 := by omega) : (x = y → A) ∧ (¬ x = y → B) := by
  subst hx hy
  rw [nI_eq ha hb]
  exact ⟨f, g⟩
theorem pk_in {x : Int32} (n N : Nat) (h : n < N) (hx : x = nI n := by rfl) (hN : N < 2 ^ 31 := by omega) : vp_in x N := by
  subst hx
  exact vp_in_nI h hN
theorem pk_cl {x : Int32} (n : Nat) (hx : x = nI n := by rfl) (h : n < 2 ^ 31 := by omega) : x.toNatClampNeg = n := by
  subst hx
  exact nI_clamp h
theorem pk_tn {n : Nat} (h : n < 2 ^ 32) : (nI n).toBitVec.toNat = n := Nat.mod_eq_of_lt h
theorem pk_and (x : Int32) {m : Int32} (k : Nat) (hm : m.toBitVec.toNat = 2 ^ k - 1) : x &&& m = nI (x.toBitVec.toNat % 2 ^ k) := by
  apply Int32.toBitVec_inj.mp
  apply BitVec.eq_of_toNat_eq
  rw [Int32.toBitVec_and, BitVec.toNat_and, hm, Nat.and_two_pow_sub_one_eq_mod]
  show _ = (BitVec.ofNat 32 _).toNat
  rw [BitVec.toNat_ofNat]
  exact (Nat.mod_eq_of_lt (Nat.lt_of_le_of_lt (Nat.mod_le _ _) x.toBitVec.isLt)).symm
theorem pk_andN {n : Nat} (h : n < 2 ^ 32) {m : Int32} (k : Nat) (hm : m.toBitVec.toNat = 2 ^ k - 1) : nI n &&& m = nI (n % 2 ^ k) := by
  rw [pk_and _ k hm, pk_tn h]
theorem pk_andE (x : Int32) {m : Int32} (k : Nat) (hm : m.toBitVec.toNat = 2 ^ k - 1) : ∃ j : Nat, j < 2 ^ k ∧ x &&& m = nI j := ⟨_, Nat.mod_lt _ (Nat.two_pow_pos k), pk_and x k hm⟩
theorem pk_andIn (x : Int32) {m : Int32} (k : Nat) (hm : m.toBitVec.toNat = 2 ^ k - 1) (hk : k ≤ 30) : vp_in (x &&& m) (2 ^ k) := by
  obtain ⟨j, hj, e⟩ := pk_andE x k hm
  rw [e]
  exact vp_in_nI hj (Nat.lt_of_le_of_lt (Nat.pow_le_pow_right (by decide) hk) (by decide))
theorem pk_shl (a s : Int32) (k : Nat) (hs : (s.toBitVec.smod 32).toNat = k) : (a <<< s).toBitVec.toNat = a.toBitVec.toNat * 2 ^ k % 2 ^ 32 := by
  show (a.toBitVec <<< (s.toBitVec.smod 32).toNat).toNat = _
  rw [hs, BitVec.toNat_shiftLeft, Nat.shiftLeft_eq]
theorem pk_shlN {n : Nat} (s : Int32) (k : Nat) (hs : (s.toBitVec.smod 32).toNat = k) (h : n * 2 ^ k < 2 ^ 32) : nI n <<< s = nI (n * 2 ^ k) := by
  apply Int32.toBitVec_inj.mp
  apply BitVec.eq_of_toNat_eq
  have hn : n < 2 ^ 32 := Nat.lt_of_le_of_lt (Nat.le_mul_of_pos_right n (Nat.two_pow_pos k)) h
  rw [pk_shl _ _ k hs, pk_tn hn, pk_tn h, Nat.mod_eq_of_lt h]
theorem pk_shr (a s : Int32) (k : Nat) (hs : (s.toBitVec.smod 32).toNat = k) : (a >>> s).toInt = a.toInt >>> k := by
  show (a.toBitVec.sshiftRight (s.toBitVec.smod 32).toNat).toInt = _
  rw [hs, BitVec.toInt_sshiftRight]
  rfl
theorem pk_shrN {n : Nat} (h : n < 2 ^ 31) (s : Int32) (k : Nat) (hs : (s.toBitVec.smod 32).toNat = k) : nI n >>> s = nI (n / 2 ^ k) := by
  apply Int32.toInt_inj.mp
  have h2 : n / 2 ^ k ≤ n := Nat.div_le_self _ _
  rw [pk_shr _ _ k hs, nI_toInt h, nI_toInt (by omega), Int.shiftRight_eq_div_pow]
  rfl
theorem pk_ushr (x s : Int32) (k : Nat) (hs : ((s.toUInt32 &&& Int32.toUInt32 31).toBitVec % 32).toNat = k) : (x.toUInt32 >>> (s.toUInt32 &&& Int32.toUInt32 31)).toInt32.toBitVec.toNat = x.toBitVec.toNat / 2 ^ k := by
  have e : (x.toUInt32 >>> (s.toUInt32 &&& Int32.toUInt32 31)).toInt32.toBitVec = x.toBitVec >>> k := by
    rw [← hs]
    exact UInt32.toBitVec_shiftRight _ _
  rw [e, BitVec.toNat_ushiftRight, Nat.shiftRight_eq_div_pow]
theorem pk_ushrN {n : Nat} (hn : n < 2 ^ 32) (s : Int32) (k : Nat) (hs : ((s.toUInt32 &&& Int32.toUInt32 31).toBitVec % 32).toNat = k) : ((nI n).toUInt32 >>> (s.toUInt32 &&& Int32.toUInt32 31)).toInt32 = nI (n / 2 ^ k) := by
  apply Int32.toBitVec_inj.mp
  apply BitVec.eq_of_toNat_eq
  rw [pk_ushr _ s k hs, pk_tn hn, pk_tn (Nat.lt_of_le_of_lt (Nat.div_le_self _ _) hn)]
theorem pk_nb (z : Int32) : narrow .byte (.int z.toInt8.toInt32) = .int z.toInt8.toInt32 := congrArg Value.int (by simp)
theorem pk_ns (z : Int32) : narrow .short (.int z.toInt16.toInt32) = .int z.toInt16.toInt32 := congrArg Value.int (by simp)
theorem pk_fb (r : Int32) : fits .byte (.int r.toInt8.toInt32) = true := by
  have ⟨a, b⟩ := lg_i2b_range r
  have h1 : (-128 : Int32).toInt = -128 := by decide
  have h2 : (127 : Int32).toInt = 127 := by decide
  simp only [fits, Bool.and_eq_true, decide_eq_true_eq, Int32.le_iff_toInt_le, h1, h2]
  omega
theorem pk_fs (r : Int32) : fits .short (.int r.toInt16.toInt32) = true := by
  have ⟨a, b⟩ := lg_i2s_range r
  have h1 : (-32768 : Int32).toInt = -32768 := by decide
  have h2 : (32767 : Int32).toInt = 32767 := by decide
  simp only [fits, Bool.and_eq_true, decide_eq_true_eq, Int32.le_iff_toInt_le, h1, h2]
  omega
theorem pk_charN {q : Nat} (hq : q < 65536) : narrow .char (.int (nI q)) = .int (nI q) ∧ fits .char (.int (nI q)) = true := by
  constructor
  · have e : (nI q).toUInt32.toUInt16.toUInt32.toInt32 = nI q := by
      apply Int32.toBitVec_inj.mp
      apply BitVec.eq_of_toNat_eq
      show (nI q).toUInt32.toUInt16.toUInt32.toNat = q % 2 ^ 32
      rw [UInt16.toNat_toUInt32, UInt32.toNat_toUInt16, show (nI q).toUInt32.toNat = q % 2 ^ 32 from rfl]
      omega
    exact congrArg Value.int e
  · have a : (0 : Int32) ≤ nI q := nI_pos' (by omega)
    have b : nI q ≤ 65535 := nI_le (b := 65535) (by omega) (by decide)
    show (decide ((0 : Int32) ≤ nI q) && decide (nI q ≤ 65535)) = true
    rw [decide_eq_true a, decide_eq_true b]
    rfl
theorem pk_char (x : Int32) : (x.toUInt32 % 65536).toInt32 = nI (x.toBitVec.toNat % 65536) := by
  apply Int32.toBitVec_inj.mp
  apply BitVec.eq_of_toNat_eq
  rw [pk_tn (by omega)]
  show (x.toUInt32 % 65536).toNat = _
  rw [UInt32.toNat_mod]
  rfl
theorem pk_nc (x : Int32) : narrow .char (.int (x.toUInt32 % 65536).toInt32) = .int (x.toUInt32 % 65536).toInt32 := by
  rw [pk_char]
  exact (pk_charN (Nat.mod_lt _ (by decide))).1
theorem pk_fc (x : Int32) : fits .char (.int (x.toUInt32 % 65536).toInt32) = true := by
  rw [pk_char]
  exact (pk_charN (Nat.mod_lt _ (by decide))).2
theorem pk_vb (z : Int32) : vp_nar .byte z.toInt8.toInt32 = z.toInt8.toInt32 := by rw [vp_nar_byte]; simp
theorem pk_vs (z : Int32) : vp_nar .short z.toInt16.toInt32 = z.toInt16.toInt32 := by rw [vp_nar_short]; simp
theorem pk_vc (z : Int32) : vp_nar .char (z.toUInt32 % 65536).toInt32 = (z.toUInt32 % 65536).toInt32 := Value.int.inj (pk_nc z)
/-! ===== Int32 by its bits: bt x i ===== -/
def bt (x : Int32) (i : Nat) : Bool := x.toBitVec.getLsbD i
theorem b_ext {x y : Int32} (h : ∀ i, i < 32 → bt x i = bt y i) : x = y := Int32.toBitVec_inj.mp (BitVec.eq_of_getLsbD_eq (fun i hi => h i hi))
theorem b_or (x y : Int32) (i : Nat) : bt (x ||| y) i = (bt x i || bt y i) := by unfold bt; rw [Int32.toBitVec_or, BitVec.getLsbD_or]
theorem b_and (x y : Int32) (i : Nat) : bt (x &&& y) i = (bt x i && bt y i) := by unfold bt; rw [Int32.toBitVec_and, BitVec.getLsbD_and]
theorem b_xor (x y : Int32) (i : Nat) : bt (x ^^^ y) i = (bt x i ^^ bt y i) := by unfold bt; rw [Int32.toBitVec_xor, BitVec.getLsbD_xor]
theorem b_big {x : Int32} {i : Nat} (h : 32 ≤ i) : bt x i = false := BitVec.getLsbD_of_ge _ _ h
theorem b_255 (i : Nat) : bt 255 i = decide (i < 8) := by
  rcases Nat.lt_or_ge i 32 with h | h
  · exact (by decide +kernel : ∀ i, i < 32 → bt 255 i = decide (i < 8)) i h
  · rw [b_big h, decide_eq_false (by omega)]
theorem b_65535 (i : Nat) : bt 65535 i = decide (i < 16) := by
  rcases Nat.lt_or_ge i 32 with h | h
  · exact (by decide +kernel : ∀ i, i < 32 → bt 65535 i = decide (i < 16)) i h
  · rw [b_big h, decide_eq_false (by omega)]
theorem b_m1 : ∀ i, i < 32 → bt (-1) i = true := by decide +kernel
theorem b_0 (i : Nat) : bt 0 i = false := BitVec.getLsbD_zero
theorem s_l : ∀ n, n < 32 → ((nI n &&& 31).toBitVec.smod 32).toNat = n := by decide +kernel
theorem s_u : ∀ n, n < 32 → (((nI n).toUInt32 &&& Int32.toUInt32 31).toBitVec % 32).toNat = n := by decide +kernel
theorem b_shl (n : Nat) (hn : n < 32) (x : Int32) {i : Nat} (hi : i < 32) : bt (x <<< (nI n &&& 31)) i = (decide (n ≤ i) && bt x (i - n)) := by
  unfold bt
  rw [Int32.toBitVec_shiftLeft]
  show (x.toBitVec <<< ((nI n &&& 31).toBitVec.smod 32).toNat).getLsbD i = _
  rw [s_l n hn, BitVec.getLsbD_shiftLeft]
  rcases Nat.lt_or_ge i n with h | h
  · simp [h, Nat.not_le.mpr h]
  · simp [hi, h, Nat.not_lt.mpr h]
theorem b_ushr (n : Nat) (hn : n < 32) (x : Int32) (i : Nat) : bt ((x.toUInt32 >>> ((nI n).toUInt32 &&& Int32.toUInt32 31)).toInt32) i = bt x (n + i) := by
  show (x.toUInt32 >>> ((nI n).toUInt32 &&& Int32.toUInt32 31)).toBitVec.getLsbD i = x.toUInt32.toBitVec.getLsbD (n + i)
  rw [UInt32.toBitVec_shiftRight]
  show (x.toUInt32.toBitVec >>> (((nI n).toUInt32 &&& Int32.toUInt32 31).toBitVec % 32).toNat).getLsbD i = _
  rw [s_u n hn, BitVec.getLsbD_ushiftRight]
theorem b_sshr (n : Nat) (hn : n < 32) (x : Int32) {i : Nat} (hi : i < 32) : bt (x >>> (nI n &&& 31)) i = if n + i < 32 then bt x (n + i) else bt x 31 := by
  unfold bt
  rw [Int32.toBitVec_shiftRight]
  show (x.toBitVec.sshiftRight ((nI n &&& 31).toBitVec.smod 32).toNat).getLsbD i = _
  rw [s_l n hn, BitVec.getLsbD_sshiftRight, BitVec.msb_eq_getLsbD_last]
  simp [hi]
theorem b_shl8 (x : Int32) {i : Nat} (hi : i < 32) : bt (x <<< ((8 : Int32) &&& 31)) i = (decide (8 ≤ i) && bt x (i - 8)) := b_shl 8 (by omega) x hi
theorem b_shl16 (x : Int32) {i : Nat} (hi : i < 32) : bt (x <<< ((16 : Int32) &&& 31)) i = (decide (16 ≤ i) && bt x (i - 16)) := b_shl 16 (by omega) x hi
theorem b_shl24 (x : Int32) {i : Nat} (hi : i < 32) : bt (x <<< ((24 : Int32) &&& 31)) i = (decide (24 ≤ i) && bt x (i - 24)) := b_shl 24 (by omega) x hi
theorem b_sshr8 (x : Int32) {i : Nat} (hi : i < 32) : bt (x >>> ((8 : Int32) &&& 31)) i = if 8 + i < 32 then bt x (8 + i) else bt x 31 := b_sshr 8 (by omega) x hi
end
section
/-! ===== sums over naturals ===== -/
def dr_sm (f : Nat → Nat) : Nat → Nat
  | 0 => 0
  | n + 1 => dr_sm f n + f n
theorem dr_sm_s (f : Nat → Nat) (n : Nat) : dr_sm f (n + 1) = dr_sm f n + f n := rfl
theorem dr_sm_congr {f g : Nat → Nat} {n : Nat} (h : ∀ i, i < n → f i = g i) : dr_sm f n = dr_sm g n := by
  induction n with
  | zero => rfl
  | succ n ih =>
    rw [dr_sm_s, dr_sm_s, ih (fun i hi => h i (Nat.lt_succ_of_lt hi)), h n (Nat.lt_succ_self n)]
theorem dr_sm_zero {f : Nat → Nat} {n : Nat} (h : ∀ i, i < n → f i = 0) : dr_sm f n = 0 := by
  induction n with
  | zero => rfl
  | succ n ih =>
    rw [dr_sm_s, ih (fun i hi => h i (Nat.lt_succ_of_lt hi)), h n (Nat.lt_succ_self n)]
theorem dr_sm_add (f g : Nat → Nat) (n : Nat) : dr_sm (fun i => f i + g i) n = dr_sm f n + dr_sm g n := by
  induction n with
  | zero => rfl
  | succ n ih =>
    rw [dr_sm_s, dr_sm_s, dr_sm_s, ih]
    omega
theorem dr_sm_swap (F : Nat → Nat → Nat) (n m : Nat) : dr_sm (fun i => dr_sm (fun j => F i j) m) n = dr_sm (fun j => dr_sm (fun i => F i j) n) m := by
  induction n with
  | zero => exact (dr_sm_zero (fun _ _ => rfl)).symm
  | succ n ih =>
    have e : dr_sm (fun j => dr_sm (fun i => F i j) (n + 1)) m = dr_sm (fun j => dr_sm (fun i => F i j) n + F n j) m := rfl
    rw [e, dr_sm_add, dr_sm_s, ih]
theorem dr_sm_head (f : Nat → Nat) (n : Nat) : dr_sm f (n + 1) = f 0 + dr_sm (fun i => f (i + 1)) n := by
  induction n with
  | zero => show 0 + f 0 = f 0 + 0; omega
  | succ n ih =>
    rw [dr_sm_s, ih, dr_sm_s]
    omega
theorem dr_sm_app (f : Nat → Nat) (n m : Nat) : dr_sm f (n + m) = dr_sm f n + dr_sm (fun i => f (n + i)) m := by
  induction m with
  | zero => rfl
  | succ m ih =>
    rw [← Nat.add_assoc, dr_sm_s, ih, dr_sm_s]
    omega
theorem dr_sm_const (a n : Nat) : dr_sm (fun _ => a) n = n * a := by
  induction n with
  | zero => rw [Nat.zero_mul]; rfl
  | succ n ih => rw [dr_sm_s, ih, Nat.succ_mul]
theorem dr_sm_grid (f : Nat → Nat) (n m : Nat) : dr_sm f (m * n) = dr_sm (fun j => dr_sm (fun i => f (n * j + i)) n) m := by
  induction m with
  | zero => rw [Nat.zero_mul]; rfl
  | succ m ih => rw [Nat.succ_mul, dr_sm_app, ih, dr_sm_s, Nat.mul_comm m n]
/-- the tail of a sum that is zero -/
theorem dr_sm_cut {f : Nat → Nat} {n : Nat} (m : Nat) (h : ∀ i, i < m → f (n + i) = 0) : dr_sm f (n + m) = dr_sm f n := by
  rw [dr_sm_app, dr_sm_zero h]
  rfl
/-! ===== a Prop as a Bool ===== -/
noncomputable def dr_b (P : Prop) : Bool := @decide P (Classical.propDecidable P)
theorem dr_b_t {P : Prop} : dr_b P = true ↔ P := @decide_eq_true_iff P (Classical.propDecidable P)
theorem dr_b_f {P : Prop} : dr_b P = false ↔ ¬ P := @decide_eq_false_iff_not P (Classical.propDecidable P)
theorem dr_b_c {P Q : Prop} (h : P ↔ Q) : dr_b P = dr_b Q := by rw [propext h]
theorem dr_b_eq {b : Bool} {P : Prop} (h : b = true ↔ P) : b = dr_b P := by
  cases b
  · exact (dr_b_f.mpr (fun p => Bool.noConfusion (h.mpr p))).symm
  · exact (dr_b_t.mpr (h.mp rfl)).symm
/-! ===== strips ===== -/
def dr_St (S : Nat) (X : Nat → Nat) : Prop := X 0 = 0 ∧ X S = 16 ∧ ∀ k, k < S → X k < X (k + 1)
theorem dr_mono {S : Nat} {X : Nat → Nat} (h : dr_St S X) {a b : Nat} (hab : a ≤ b) (hb : b ≤ S) : X a + (b - a) ≤ X b := by
  induction b with
  | zero => 
    have : a = 0 := by omega
    subst this
    exact Nat.le_refl _
  | succ b ih =>
    rcases Nat.lt_or_ge b a with z | z
    · have : a = b + 1 := by omega
      subst this
      omega
    · have h1 := ih z (by omega)
      have h2 := h.2.2 b (by omega)
      omega
theorem dr_S16 {S : Nat} {X : Nat → Nat} (h : dr_St S X) : S ≤ 16 := by
  have h1 := dr_mono h (Nat.zero_le S) (Nat.le_refl S)
  have h2 := h.1
  have h3 := h.2.1
  omega
theorem dr_X16 {S : Nat} {X : Nat → Nat} (h : dr_St S X) {k : Nat} (hk : k ≤ S) : X k ≤ 16 := by
  have h1 := dr_mono h hk (Nat.le_refl S)
  have h3 := h.2.1
  omega
theorem dr_S1 {S : Nat} {X : Nat → Nat} (h : dr_St S X) : 0 < S := by
  rcases Nat.eq_zero_or_pos S with z | z
  · subst z
    have h2 := h.1
    have h3 := h.2.1
    omega
  · exact z
theorem dr_loc {S : Nat} {X : Nat → Nat} (h : dr_St S X) {a b t : Nat} (hab : a ≤ b) (hb : b ≤ S) (h1 : X a ≤ t) (h2 : t < X b) : ∃ k, a ≤ k ∧ k < b ∧ X k ≤ t ∧ t < X (k + 1) := by
  induction b with
  | zero =>
    have : a = 0 := by omega
    subst this
    omega
  | succ b ih =>
    rcases Nat.lt_or_ge b a with z | z
    · have : a = b + 1 := by omega
      subst this
      omega
    · rcases Nat.lt_or_ge t (X b) with y | y
      · obtain ⟨k, k1, k2, k3, k4⟩ := ih z (by omega) y
        exact ⟨k, k1, by omega, k3, k4⟩
      · exact ⟨b, z, by omega, y, h2⟩
theorem dr_wsum {S : Nat} {X : Nat → Nat} (h : dr_St S X) (F : Nat → Nat) (hF : ∀ k, k < S → ∀ i, X k ≤ i → i < X (k + 1) → F i = F (X k)) :
    dr_sm (fun k => (X (k + 1) - X k) * F (X k)) S = dr_sm F 16 := by
  have key : ∀ n, n ≤ S → dr_sm (fun k => (X (k + 1) - X k) * F (X k)) n = dr_sm F (X n) := by
    intro n
    induction n with
    | zero => intro _; rw [h.1]; rfl
    | succ n ih =>
      intro hn
      have hl := h.2.2 n (by omega)
      have e : X (n + 1) = X n + (X (n + 1) - X n) := by omega
      rw [dr_sm_s, ih (by omega)]
      have e2 : dr_sm F (X (n + 1)) = dr_sm F (X n) + dr_sm (fun i => F (X n + i)) (X (n + 1) - X n) := by
        rw [← dr_sm_app, ← e]
      have e3 : dr_sm (fun i => F (X n + i)) (X (n + 1) - X n) = dr_sm (fun _ => F (X n)) (X (n + 1) - X n) :=
        dr_sm_congr (fun i hi => hF n (by omega) (X n + i) (by omega) (by omega))
      rw [e2, e3, dr_sm_const]
  rw [key S (Nat.le_refl S), h.2.1]
theorem dr_lsum {S : Nat} {X : Nat → Nat} (h : dr_St S X) (F : Nat → Nat) (hF : ∀ k, k < S → ∀ x, X k < x → x < X (k + 1) → F x = 0) :
    dr_sm (fun k => F (X k)) (S + 1) = dr_sm F 17 := by
  have key : ∀ n, n ≤ S → dr_sm (fun k => F (X k)) (n + 1) = dr_sm F (X n + 1) := by
    intro n
    induction n with
    | zero => 
      intro _
      rw [dr_sm_s, dr_sm_s, h.1]
      rfl
    | succ n ih =>
      intro hn
      have hl := h.2.2 n (by omega)
      have e : X (n + 1) = X n + 1 + (X (n + 1) - X n - 1) := by omega
      rw [dr_sm_s, ih (by omega), dr_sm_s F (X (n + 1))]
      have e2 : dr_sm F (X (n + 1)) = dr_sm F (X n + 1) := by
        rw [e]
        exact dr_sm_cut _ (fun i hi => hF n (by omega) _ (by omega) (by omega))
      rw [e2]
  rw [key S (Nat.le_refl S), h.2.1]
/-! ===== the padded grid: cell (i, j) at (i + 1, j + 1), a border of cells that are not in it ===== -/
def dr_pd (g : Nat → Nat → Bool) (a b : Nat) : Bool := decide (1 ≤ a ∧ a ≤ 16 ∧ 1 ≤ b ∧ b ≤ 16) && g (a - 1) (b - 1)
theorem dr_pd_in {g : Nat → Nat → Bool} {i j : Nat} (hi : i < 16) (hj : j < 16) : dr_pd g (i + 1) (j + 1) = g i j := by
  unfold dr_pd
  rw [decide_eq_true (by omega), Bool.true_and]
  rfl
theorem dr_pd_out {g : Nat → Nat → Bool} {a b : Nat} (h : a = 0 ∨ 17 ≤ a ∨ b = 0 ∨ 17 ≤ b) : dr_pd g a b = false := by
  unfold dr_pd
  rw [decide_eq_false (by omega), Bool.false_and]
/-- edges along one line of cells -/
theorem dr_edge {P : Nat → Bool} (h0 : P 0 = false) (h17 : P 17 = false) :
    dr_sm (fun x => (P x ^^ P (x + 1)).toNat) 17 = dr_sm (fun i => if P (i + 1) = true then (!P i).toNat + (!P (i + 2)).toNat else 0) 16 := by
  have e1 : dr_sm (fun x => (P x ^^ P (x + 1)).toNat) 17 = dr_sm (fun x => (P (x + 1) && !P x).toNat + (P x && !P (x + 1)).toNat) 17 :=
    dr_sm_congr (fun x _ => by cases P x <;> cases P (x + 1) <;> rfl)
  rw [e1, dr_sm_add, dr_sm_s (fun x => (P (x + 1) && !P x).toNat) 16, dr_sm_head (fun x => (P x && !P (x + 1)).toNat) 16]
  have z1 : (P (16 + 1) && !P 16).toNat = 0 := by rw [h17]; rfl
  have z2 : (P 0 && !P (0 + 1)).toNat = 0 := by rw [h0]; rfl
  rw [z1, z2, Nat.add_zero, Nat.zero_add, ← dr_sm_add]
  exact dr_sm_congr (fun i _ => by cases P i <;> cases P (i + 1) <;> cases P (i + 2) <;> rfl)
end
section
/-! ===== area, outline, corners as sums over the padded grid ===== -/
def dr_F0 (g : Nat → Nat → Bool) (i : Nat) : Nat := dr_sm (fun j => (dr_pd g (i + 1) (j + 1)).toNat) 18
def dr_F1 (g : Nat → Nat → Bool) (x : Nat) : Nat := dr_sm (fun j => (dr_pd g x (j + 1) ^^ dr_pd g (x + 1) (j + 1)).toNat) 18
def dr_F2 (g : Nat → Nat → Bool) (i : Nat) : Nat := dr_sm (fun y => (dr_pd g (i + 1) (y + 1) ^^ dr_pd g (i + 1) y).toNat) 18
def dr_ct (g : Nat → Nat → Bool) (x y : Nat) : Bool :=
  ((dr_pd g x (y + 1) ^^ dr_pd g (x + 1) (y + 1)) ^^ (dr_pd g x y ^^ dr_pd g (x + 1) y)) &&
    (((dr_pd g x (y + 1) ^^ dr_pd g x y) ^^ dr_pd g (x + 1) (y + 1)) ^^ dr_pd g (x + 1) y)
def dr_F3 (g : Nat → Nat → Bool) (x : Nat) : Nat := dr_sm (fun y => (dr_ct g x y).toNat) 18
def dr_oY (g : Nat → Nat → Bool) (i j : Nat) : Nat :=
  if dr_pd g (i + 1) (j + 1) = true then (!dr_pd g i (j + 1)).toNat + (!dr_pd g (i + 2) (j + 1)).toNat + (!dr_pd g (i + 1) j).toNat + (!dr_pd g (i + 1) (j + 2)).toNat else 0
theorem dr_area (g : Nat → Nat → Bool) : dr_sm (dr_F0 g) 16 = dr_sm (fun c => (g (c % 16) (c / 16)).toNat) 256 := by
  have e1 : dr_sm (dr_F0 g) 16 = dr_sm (fun i => dr_sm (fun j => (g i j).toNat) 16) 16 :=
    dr_sm_congr (fun i hi => by
      show dr_sm (fun j => (dr_pd g (i + 1) (j + 1)).toNat) (16 + 2) = _
      rw [dr_sm_cut 2 (fun t ht => by rw [dr_pd_out (by omega)]; rfl)]
      exact dr_sm_congr (fun j hj => by rw [dr_pd_in hi hj]))
  rw [e1, dr_sm_swap]
  have e2 := dr_sm_grid (fun c => (g (c % 16) (c / 16)).toNat) 16 16
  rw [show 16 * 16 = 256 from rfl] at e2
  rw [e2]
  exact dr_sm_congr (fun j hj => dr_sm_congr (fun i hi => by
    rw [show (16 * j + i) % 16 = i by omega, show (16 * j + i) / 16 = j by omega]))
theorem dr_outline (g : Nat → Nat → Bool) : dr_sm (dr_F1 g) 17 + dr_sm (dr_F2 g) 16 = dr_sm (fun j => dr_sm (fun i => dr_oY g i j) 16) 16 := by
  have e1 : dr_sm (dr_F1 g) 17 = dr_sm (fun j => dr_sm (fun i => if dr_pd g (i + 1) (j + 1) = true then (!dr_pd g i (j + 1)).toNat + (!dr_pd g (i + 2) (j + 1)).toNat else 0) 16) 16 := by
    have a : dr_sm (dr_F1 g) 17 = dr_sm (fun x => dr_sm (fun j => (dr_pd g x (j + 1) ^^ dr_pd g (x + 1) (j + 1)).toNat) 16) 17 :=
      dr_sm_congr (fun x _ => by
        show dr_sm (fun j => (dr_pd g x (j + 1) ^^ dr_pd g (x + 1) (j + 1)).toNat) (16 + 2) = _
        rw [dr_sm_cut 2 (fun t ht => by rw [dr_pd_out (by omega), dr_pd_out (by omega)]; rfl)])
    rw [a, dr_sm_swap]
    exact dr_sm_congr (fun j hj => dr_edge (P := fun x => dr_pd g x (j + 1)) (dr_pd_out (by omega)) (dr_pd_out (by omega)))
  have e2 : dr_sm (dr_F2 g) 16 = dr_sm (fun j => dr_sm (fun i => if dr_pd g (i + 1) (j + 1) = true then (!dr_pd g (i + 1) j).toNat + (!dr_pd g (i + 1) (j + 2)).toNat else 0) 16) 16 := by
    rw [← dr_sm_swap]
    refine dr_sm_congr (fun i _ => ?_)
    show dr_sm (fun y => (dr_pd g (i + 1) (y + 1) ^^ dr_pd g (i + 1) y).toNat) (17 + 1) = _
    rw [dr_sm_cut 1 (fun t ht => by rw [dr_pd_out (by omega), dr_pd_out (by omega)]; rfl)]
    have c : dr_sm (fun y => (dr_pd g (i + 1) (y + 1) ^^ dr_pd g (i + 1) y).toNat) 17 = dr_sm (fun y => (dr_pd g (i + 1) y ^^ dr_pd g (i + 1) (y + 1)).toNat) 17 :=
      dr_sm_congr (fun y _ => by rw [Bool.xor_comm])
    rw [c]
    exact dr_edge (P := fun y => dr_pd g (i + 1) y) (dr_pd_out (by omega)) (dr_pd_out (by omega))
  rw [e1, e2, ← dr_sm_add]
  refine dr_sm_congr (fun j _ => ?_)
  rw [← dr_sm_add]
  refine dr_sm_congr (fun i _ => ?_)
  unfold dr_oY
  by_cases z : dr_pd g (i + 1) (j + 1) = true
  · rw [if_pos z, if_pos z, if_pos z]
    omega
  · rw [if_neg z, if_neg z, if_neg z]
theorem dr_corners (g : Nat → Nat → Bool) : dr_sm (dr_F3 g) 17 = dr_sm (fun y => dr_sm (fun x => (dr_ct g x y).toNat) 17) 17 := by
  rw [← dr_sm_swap]
  refine dr_sm_congr (fun x _ => ?_)
  show dr_sm (fun y => (dr_ct g x y).toNat) (17 + 1) = _
  exact dr_sm_cut 1 (fun t ht => by
    unfold dr_ct
    rw [dr_pd_out (b := 17 + t + 1) (by omega), dr_pd_out (b := 17 + t + 1) (by omega), dr_pd_out (b := 17 + t) (by omega), dr_pd_out (b := 17 + t) (by omega)]
    rfl)
/-! ===== a set that is constant on strips ===== -/
def dr_K (S : Nat) (X : Nat → Nat) (g : Nat → Nat → Bool) : Prop := ∀ k, k < S → ∀ i, X k ≤ i → i < X (k + 1) → ∀ j, g i j = g (X k) j
theorem dr_K_pd {S : Nat} {X : Nat → Nat} {g : Nat → Nat → Bool} (h : dr_St S X) (hK : dr_K S X g) {k i : Nat} (hk : k < S) (h1 : X k ≤ i) (h2 : i < X (k + 1)) (b : Nat) :
    dr_pd g (i + 1) b = dr_pd g (X k + 1) b := by
  have h3 := dr_X16 h (k := k + 1) (by omega)
  by_cases z : 1 ≤ b ∧ b ≤ 16
  · obtain ⟨j, rfl⟩ : ∃ j, b = j + 1 := ⟨b - 1, by omega⟩
    rw [dr_pd_in (by omega) (by omega), dr_pd_in (by omega) (by omega), hK k hk i h1 h2 j]
  · rw [dr_pd_out (by omega), dr_pd_out (by omega)]
theorem dr_K_ln {S : Nat} {X : Nat → Nat} {g : Nat → Nat → Bool} (h : dr_St S X) (hK : dr_K S X g) {k x : Nat} (hk : k < S) (h1 : X k < x) (h2 : x < X (k + 1)) (b : Nat) :
    dr_pd g x b = dr_pd g (x + 1) b := by
  obtain ⟨i, rfl⟩ : ∃ i, x = i + 1 := ⟨x - 1, by omega⟩
  rw [dr_K_pd h hK hk (i := i) (by omega) (by omega), dr_K_pd h hK hk (i := i + 1) (by omega) (by omega)]
/-- left of strip k + 1 lies strip k -/
theorem dr_K_bf {S : Nat} {X : Nat → Nat} {g : Nat → Nat → Bool} (h : dr_St S X) (hK : dr_K S X g) {k : Nat} (hk : k < S) (b : Nat) :
    dr_pd g (X k + 1) b = dr_pd g (X (k + 1)) b := by
  have h1 := h.2.2 k hk
  obtain ⟨i, e⟩ : ∃ i, X (k + 1) = i + 1 := ⟨X (k + 1) - 1, by omega⟩
  rw [e]
  exact (dr_K_pd h hK hk (i := i) (by omega) (by omega) b).symm
theorem dr_K_F0 {S : Nat} {X : Nat → Nat} {g : Nat → Nat → Bool} (h : dr_St S X) (hK : dr_K S X g) :
    dr_sm (fun k => (X (k + 1) - X k) * dr_F0 g (X k)) S = dr_sm (dr_F0 g) 16 :=
  dr_wsum h _ (fun k hk i h1 h2 => dr_sm_congr (fun j _ => by rw [dr_K_pd h hK hk h1 h2]))
theorem dr_K_F2 {S : Nat} {X : Nat → Nat} {g : Nat → Nat → Bool} (h : dr_St S X) (hK : dr_K S X g) :
    dr_sm (fun k => (X (k + 1) - X k) * dr_F2 g (X k)) S = dr_sm (dr_F2 g) 16 :=
  dr_wsum h _ (fun k hk i h1 h2 => dr_sm_congr (fun j _ => by rw [dr_K_pd h hK hk h1 h2, dr_K_pd h hK hk h1 h2]))
theorem dr_K_F1 {S : Nat} {X : Nat → Nat} {g : Nat → Nat → Bool} (h : dr_St S X) (hK : dr_K S X g) :
    dr_sm (fun k => dr_F1 g (X k)) (S + 1) = dr_sm (dr_F1 g) 17 :=
  dr_lsum h _ (fun k hk x h1 h2 => dr_sm_zero (fun j _ => by rw [dr_K_ln h hK hk h1 h2, Bool.xor_self]; rfl))
theorem dr_K_F3 {S : Nat} {X : Nat → Nat} {g : Nat → Nat → Bool} (h : dr_St S X) (hK : dr_K S X g) :
    dr_sm (fun k => dr_F3 g (X k)) (S + 1) = dr_sm (dr_F3 g) 17 :=
  dr_lsum h _ (fun k hk x h1 h2 => dr_sm_zero (fun y _ => by
    unfold dr_ct
    rw [dr_K_ln h hK hk h1 h2, dr_K_ln h hK hk h1 h2 y, Bool.xor_self, Bool.xor_self]
    rfl))
/-! ===== runs ===== -/
def dr_Run (q : Nat → Bool) (N a b : Nat) : Prop := a < b ∧ b ≤ N ∧ (∀ t, a ≤ t → t < b → q t = true) ∧ (0 < a → q (a - 1) = false) ∧ (b < N → q b = false)
theorem dr_run_lo (q : Nat → Bool) (s : Nat) (hq : q s = true) : ∃ a, a ≤ s ∧ (∀ t, a ≤ t → t ≤ s → q t = true) ∧ (0 < a → q (a - 1) = false) := by
  induction s with
  | zero =>
    refine ⟨0, Nat.le_refl 0, fun t _ ht => ?_, fun z => absurd z (Nat.lt_irrefl 0)⟩
    rw [show t = 0 by omega]
    exact hq
  | succ s ih =>
    cases e : q s with
    | true =>
      obtain ⟨a, h1, h2, h3⟩ := ih e
      refine ⟨a, by omega, fun t t1 t2 => ?_, h3⟩
      rcases Nat.lt_or_ge s t with z | z
      · rw [show t = s + 1 by omega]
        exact hq
      · exact h2 t t1 z
    | false =>
      refine ⟨s + 1, Nat.le_refl _, fun t t1 t2 => ?_, fun _ => e⟩
      rw [show t = s + 1 by omega]
      exact hq
theorem dr_run_hi (q : Nat → Bool) (N : Nat) : ∀ d s, s + 1 + d = N → q s = true → ∃ b, s < b ∧ b ≤ N ∧ (∀ t, s ≤ t → t < b → q t = true) ∧ (b < N → q b = false) := by
  intro d
  induction d with
  | zero =>
    intro s hs hq
    refine ⟨s + 1, by omega, by omega, fun t t1 t2 => ?_, fun z => ?_⟩
    · rw [show t = s by omega]
      exact hq
    · omega
  | succ d ih =>
    intro s hs hq
    cases e : q (s + 1) with
    | true =>
      obtain ⟨b, h1, h2, h3, h4⟩ := ih (s + 1) (by omega) e
      refine ⟨b, by omega, h2, fun t t1 t2 => ?_, h4⟩
      rcases Nat.lt_or_ge s t with z | z
      · exact h3 t (by omega) t2
      · rw [show t = s by omega]
        exact hq
    | false =>
      refine ⟨s + 1, by omega, by omega, fun t t1 t2 => ?_, fun _ => e⟩
      rw [show t = s by omega]
      exact hq
theorem dr_run_ex {q : Nat → Bool} {N s : Nat} (hs : s < N) (hq : q s = true) : ∃ a b, dr_Run q N a b ∧ a ≤ s ∧ s < b := by
  obtain ⟨a, a1, a2, a3⟩ := dr_run_lo q s hq
  obtain ⟨b, b1, b2, b3, b4⟩ := dr_run_hi q N (N - s - 1) s (by omega) hq
  refine ⟨a, b, ⟨by omega, b2, fun t t1 t2 => ?_, a3, b4⟩, a1, b1⟩
  rcases Nat.lt_or_ge s t with z | z
  · exact b3 t (by omega) t2
  · exact a2 t t1 z
theorem dr_run_le {q : Nat → Bool} {N a b a' b' s : Nat} (h : dr_Run q N a b) (h' : dr_Run q N a' b') (s1 : a ≤ s) (s2 : s < b) (s3 : a' ≤ s) (s4 : s < b') : a' ≤ a ∧ b ≤ b' := by
  obtain ⟨h1, h2, h3, h4, h5⟩ := h
  obtain ⟨g1, g2, g3, g4, g5⟩ := h'
  constructor
  · rcases Nat.lt_or_ge a a' with z | z
    · have x1 := h3 (a' - 1) (by omega) (by omega)
      have x2 := g4 (by omega)
      rw [x1] at x2
      exact Bool.noConfusion x2
    · exact z
  · rcases Nat.lt_or_ge b' b with z | z
    · have x1 := h3 b' (by omega) z
      have x2 := g5 (by omega)
      rw [x1] at x2
      exact Bool.noConfusion x2
    · exact z
theorem dr_run_u {q : Nat → Bool} {N a b a' b' s : Nat} (h : dr_Run q N a b) (h' : dr_Run q N a' b') (s1 : a ≤ s) (s2 : s < b) (s3 : a' ≤ s) (s4 : s < b') : a' = a ∧ b' = b := by
  have x := dr_run_le h h' s1 s2 s3 s4
  have y := dr_run_le h' h s3 s4 s1 s2
  omega
/-- s lies in a run of q within [0, N) whose width by X is below w and, if inner, that meets neither end -/
def dr_Sh (q : Nat → Bool) (N : Nat) (X : Nat → Nat) (w : Nat) (inner : Bool) (s : Nat) : Prop :=
  ∃ a b, dr_Run q N a b ∧ a ≤ s ∧ s < b ∧ X b - X a < w ∧ (inner = true → 0 < a ∧ b < N)
theorem dr_sh_q {q : Nat → Bool} {N : Nat} {X : Nat → Nat} {w : Nat} {inner : Bool} {s : Nat} (h : dr_Sh q N X w inner s) : q s = true := by
  obtain ⟨a, b, h1, h2, h3, _⟩ := h
  exact h1.2.2.1 s h2 h3
/-- within a run it is the run that decides -/
theorem dr_sh_run {q : Nat → Bool} {N : Nat} {X : Nat → Nat} {w : Nat} {inner : Bool} {s a b : Nat} (h : dr_Run q N a b) (h1 : a ≤ s) (h2 : s < b) :
    dr_Sh q N X w inner s ↔ (X b - X a < w ∧ (inner = true → 0 < a ∧ b < N)) := by
  constructor
  · intro ⟨a', b', r, r1, r2, r3⟩
    obtain ⟨e1, e2⟩ := dr_run_u h r h1 h2 r1 r2
    rw [e1, e2] at r3
    exact r3
  · intro r
    exact ⟨a, b, h, h1, h2, r⟩
theorem dr_run_map {S : Nat} {X : Nat → Nat} {p q : Nat → Bool} (h : dr_St S X) (hp : ∀ k, k < S → ∀ i, X k ≤ i → i < X (k + 1) → p i = q k) {a b : Nat} (hr : dr_Run q S a b) :
    dr_Run p 16 (X a) (X b) := by
  obtain ⟨h1, h2, h3, h4, h5⟩ := hr
  have m := dr_mono h (a := a) (b := b) (by omega) h2
  refine ⟨by omega, dr_X16 h h2, fun t t1 t2 => ?_, fun z => ?_, fun z => ?_⟩
  · obtain ⟨k, k1, k2, k3, k4⟩ := dr_loc h (a := a) (b := b) (by omega) h2 t1 t2
    rw [hp k (by omega) t k3 k4]
    exact h3 k k1 k2
  · have a0 : 0 < a := by
      rcases Nat.eq_zero_or_pos a with y | y
      · rw [y, h.1] at z
        omega
      · exact y
    obtain ⟨c, rfl⟩ : ∃ c, a = c + 1 := ⟨a - 1, by omega⟩
    have y := h.2.2 c (by omega)
    rw [hp c (by omega) _ (by omega) (by omega)]
    exact h4 a0
  · have b0 : b < S := by
      rcases Nat.lt_or_ge b S with y | y
      · exact y
      · rw [show b = S by omega, h.2.1] at z
        omega
    have y := h.2.2 b b0
    rw [hp b b0 _ (Nat.le_refl _) y]
    exact h5 b0
theorem dr_sh_map {S : Nat} {X : Nat → Nat} {p q : Nat → Bool} {w : Nat} {inner : Bool} (h : dr_St S X) (hp : ∀ k, k < S → ∀ i, X k ≤ i → i < X (k + 1) → p i = q k) {k i : Nat}
    (hk : k < S) (h1 : X k ≤ i) (h2 : i < X (k + 1)) : dr_Sh q S X w inner k ↔ dr_Sh p 16 id w inner i := by
  cases e : q k with
  | false =>
    have e' : p i = false := by rw [hp k hk i h1 h2, e]
    constructor
    · intro z
      have := dr_sh_q z
      rw [e] at this
      exact Bool.noConfusion this
    · intro z
      have := dr_sh_q z
      rw [e'] at this
      exact Bool.noConfusion this
  | true =>
    obtain ⟨a, b, r, r1, r2⟩ := dr_run_ex hk e
    have m1 := dr_mono h r1 (by omega)
    have m2 := dr_mono h (a := k + 1) (b := b) (by omega) r.2.1
    have ma := dr_mono h (Nat.zero_le a) (by omega : a ≤ S)
    have mb := dr_mono h r.2.1 (Nat.le_refl S)
    have h0 := h.1
    have hS := h.2.1
    rw [dr_sh_run r r1 r2, dr_sh_run (dr_run_map h hp r) (by omega : X a ≤ i) (by omega : i < X b)]
    have ea : 0 < a ↔ 0 < X a := by
      constructor
      · intro; omega
      · intro z
        rcases Nat.eq_zero_or_pos a with y | y
        · rw [y] at z; omega
        · exact y
    have eb : b < S ↔ X b < 16 := by
      constructor
      · intro; omega
      · intro z
        rcases Nat.lt_or_ge b S with y | y
        · exact y
        · have : b = S := by have := r.2.1; omega
          rw [this] at z; omega
    rw [ea, eb]
    exact Iff.rfl
/-- a run by its lengths in the two directions -/
theorem dr_run_on {p : Nat → Bool} {i on back : Nat} (hi : i < 16) (hp : p i = true) (o1 : i + on ≤ 16) (o2 : ∀ t, t < on → p (i + t) = true) (o3 : i + on < 16 → p (i + on) = false)
    (b1 : back ≤ i + 1) (b2 : ∀ t, t < back → p (i - t) = true) (b3 : back ≤ i → p (i - back) = false) :
    0 < on ∧ 0 < back ∧ dr_Run p 16 (i + 1 - back) (i + on) := by
  have on0 : 0 < on := by
    rcases Nat.eq_zero_or_pos on with z | z
    · subst z
      have := o3 hi
      rw [Nat.add_zero, hp] at this
      exact Bool.noConfusion this
    · exact z
  have bk0 : 0 < back := by
    rcases Nat.eq_zero_or_pos back with z | z
    · subst z
      have := b3 (Nat.zero_le i)
      rw [Nat.sub_zero, hp] at this
      exact Bool.noConfusion this
    · exact z
  refine ⟨on0, bk0, by omega, o1, fun t t1 t2 => ?_, fun z => ?_, o3⟩
  · rcases Nat.lt_or_ge t i with y | y
    · have := b2 (i - t) (by omega)
      rw [show i - (i - t) = t by omega] at this
      exact this
    · have := o2 (t - i) (by omega)
      rw [show i + (t - i) = t by omega] at this
      exact this
  · rw [show i + 1 - back - 1 = i - back by omega]
    exact b3 (by omega)
end
section
/-! ===== a set grown by one cell each way ===== -/
def dr_V (f : Nat → Nat → Bool) (i j : Nat) : Bool := f i j || (((decide (1 ≤ j) && f i (j - 1)) || f i (j + 1)) && decide (j < 16))
def dr_H (f : Nat → Nat → Bool) (i j : Nat) : Bool := (f i j || (decide (1 ≤ i) && f (i - 1) j)) || (decide (i < 15) && f (i + 1) j)
def dr_D (f : Nat → Nat → Bool) : Nat → Nat → Nat → Bool
  | 0 => f
  | m + 1 => dr_H (dr_V (dr_D f m))
def dr_Nr (m i j i' j' : Nat) : Prop := i ≤ i' + m ∧ i' ≤ i + m ∧ j ≤ j' + m ∧ j' ≤ j + m
theorem dr_V_t {f : Nat → Nat → Bool} {i j : Nat} : dr_V f i j = true ↔ (f i j = true ∨ (((1 ≤ j ∧ f i (j - 1) = true) ∨ f i (j + 1) = true) ∧ j < 16)) := by
  unfold dr_V
  simp only [Bool.or_eq_true, Bool.and_eq_true, decide_eq_true_eq]
theorem dr_H_t {f : Nat → Nat → Bool} {i j : Nat} : dr_H f i j = true ↔ ((f i j = true ∨ (1 ≤ i ∧ f (i - 1) j = true)) ∨ (i < 15 ∧ f (i + 1) j = true)) := by
  unfold dr_H
  simp only [Bool.or_eq_true, Bool.and_eq_true, decide_eq_true_eq]
theorem dr_D_t {f : Nat → Nat → Bool} (hf : ∀ i j, f i j = true → j < 16) : ∀ m i j, i < 16 →
    (dr_D f m i j = true ↔ (j < 16 ∧ ∃ i' j', i' < 16 ∧ f i' j' = true ∧ dr_Nr m i j i' j')) := by
  intro m
  induction m with
  | zero =>
    intro i j hi
    show f i j = true ↔ _
    constructor
    · intro h
      exact ⟨hf i j h, i, j, hi, h, by omega, by omega, by omega, by omega⟩
    · intro ⟨_, i', j', _, h, n1, n2, n3, n4⟩
      rw [show i = i' by omega, show j = j' by omega]
      exact h
  | succ m ih =>
    intro i j hi
    show dr_H (dr_V (dr_D f m)) i j = true ↔ _
    constructor
    · have V : ∀ a, a < 16 → dr_V (dr_D f m) a j = true → j < 16 ∧ ∃ i' j', i' < 16 ∧ f i' j' = true ∧ a ≤ i' + m ∧ i' ≤ a + m ∧ j ≤ j' + (m + 1) ∧ j' ≤ j + (m + 1) := by
        intro a ha hV
        rcases dr_V_t.mp hV with h | ⟨⟨_, h⟩ | h, hj⟩
        · obtain ⟨q, i', j', h1, h2, n1, n2, n3, n4⟩ := (ih a j ha).mp h
          exact ⟨q, i', j', h1, h2, n1, n2, by omega, by omega⟩
        · obtain ⟨q, i', j', h1, h2, n1, n2, n3, n4⟩ := (ih a (j - 1) ha).mp h
          exact ⟨hj, i', j', h1, h2, n1, n2, by omega, by omega⟩
        · obtain ⟨q, i', j', h1, h2, n1, n2, n3, n4⟩ := (ih a (j + 1) ha).mp h
          exact ⟨hj, i', j', h1, h2, n1, n2, by omega, by omega⟩
      intro hH
      rcases dr_H_t.mp hH with (h | ⟨_, h⟩) | ⟨_, h⟩
      · obtain ⟨q, i', j', h1, h2, n1, n2, n3, n4⟩ := V i hi h
        exact ⟨q, i', j', h1, h2, by omega, by omega, n3, n4⟩
      · obtain ⟨q, i', j', h1, h2, n1, n2, n3, n4⟩ := V (i - 1) (by omega) h
        exact ⟨q, i', j', h1, h2, by omega, by omega, n3, n4⟩
      · obtain ⟨q, i', j', h1, h2, n1, n2, n3, n4⟩ := V (i + 1) (by omega) h
        exact ⟨q, i', j', h1, h2, by omega, by omega, n3, n4⟩
    · intro ⟨hj, i', j', h1, h2, n1, n2, n3, n4⟩
      have hj' := hf i' j' h2
      have V : ∀ a, a < 16 → a ≤ i' + m → i' ≤ a + m → dr_V (dr_D f m) a j = true := by
        intro a ha a1 a2
        rw [dr_V_t]
        rcases Nat.lt_trichotomy j j' with z | z | z
        · exact Or.inr ⟨Or.inr ((ih a (j + 1) ha).mpr ⟨by omega, i', j', h1, h2, a1, a2, by omega, by omega⟩), hj⟩
        · exact Or.inl ((ih a j ha).mpr ⟨hj, i', j', h1, h2, a1, a2, by omega, by omega⟩)
        · exact Or.inr ⟨Or.inl ⟨by omega, (ih a (j - 1) ha).mpr ⟨by omega, i', j', h1, h2, a1, a2, by omega, by omega⟩⟩, hj⟩
      rw [dr_H_t]
      rcases Nat.lt_trichotomy i i' with z | z | z
      · exact Or.inr ⟨by omega, V (i + 1) (by omega) (by omega) (by omega)⟩
      · exact Or.inl (Or.inl (V i hi (by omega) (by omega)))
      · exact Or.inl (Or.inr ⟨by omega, V (i - 1) (by omega) (by omega) (by omega)⟩)
/-- the set f, grown m times, lies within g -/
def dr_W (f g : Nat → Nat → Bool) (m : Nat) : Prop := ∀ i j, i < 16 → j < 16 → dr_D f m i j = true → g i j = true
theorem dr_W_t {f g : Nat → Nat → Bool} (hf : ∀ i j, f i j = true → j < 16) (m : Nat) :
    dr_W f g m ↔ ∀ i j, i < 16 → j < 16 → f i j = true → ∀ x y, x < 16 → y < 16 → dr_Nr m x y i j → g x y = true := by
  constructor
  · intro h i j hi hj e x y hx hy n
    exact h x y hx hy ((dr_D_t hf m x y hx).mpr ⟨hy, i, j, hi, e, n⟩)
  · intro h i j hi hj e
    obtain ⟨_, i', j', h1, h2, n⟩ := (dr_D_t hf m i j hi).mp e
    exact h i' j' h1 (hf i' j' h2) h2 i j hi hj n
end
section
/-! ===== ints, bits, branches ===== -/
theorem dr_b1 : ∀ i, i < 32 → bt 1 i = decide (i = 0) := by decide +kernel
theorem dr_n1 (b : Bool) (i : Nat) (hi : i < 32) : bt (nI b.toNat) i = (b && decide (i = 0)) := by
  cases b
  · show bt (nI 0) i = _
    rw [nI_0, b_0]
    rfl
  · show bt 1 i = _
    rw [dr_b1 i hi, Bool.true_and]
theorem dr_bit (x : Int32) {j : Nat} (hj : j < 32) : (x >>> (nI j &&& 31)) &&& 1 = nI (bt x j).toNat := by
  apply b_ext
  intro i hi
  rw [b_and, b_sshr j hj x hi, dr_b1 i hi, dr_n1 _ i hi]
  by_cases z : i = 0
  · subst z
    rw [if_pos (by omega)]
    rfl
  · rw [decide_eq_false z, Bool.and_false, Bool.and_false]
theorem dr_br {A B : Prop} {b : Bool} (f : b = false → A) (g : b = true → B) : (nI b.toNat = 0 → A) ∧ (¬ nI b.toNat = 0 → B) := by
  cases b
  · exact ⟨fun _ => f rfl, fun z => absurd nI_0 z⟩
  · exact ⟨fun z => absurd z (by decide), fun _ => g rfl⟩
theorem dr_brb {A B : Prop} (x : Int32) {j : Nat} (hj : j < 32) (f : bt x j = false → A) (g : bt x j = true → B) :
    (((x >>> (nI j &&& 31)) &&& 1) = 0 → A) ∧ (¬ ((x >>> (nI j &&& 31)) &&& 1) = 0 → B) := by
  rw [dr_bit x hj]
  exact dr_br f g
theorem dr_bre {A B : Prop} {a b : Bool} (f : a = b → A) (g : ¬ a = b → B) : (nI a.toNat = nI b.toNat → A) ∧ (¬ nI a.toNat = nI b.toNat → B) := by
  cases a <;> cases b
  · exact ⟨fun _ => f rfl, fun z => absurd rfl z⟩
  · exact ⟨fun z => absurd z (by decide), fun _ => g (by decide)⟩
  · exact ⟨fun z => absurd z (by decide), fun _ => g (by decide)⟩
  · exact ⟨fun _ => f rfl, fun z => absurd rfl z⟩
theorem dr_mask : ∀ e, e < 17 → ∀ s, s < e → ∀ j, j < 32 → bt (((1 : Int32) <<< (nI e &&& 31)) - ((1 : Int32) <<< (nI s &&& 31))) j = decide (s ≤ j ∧ j < e) := by decide +kernel
theorem dr_one : ∀ e, e < 32 → ∀ j, j < 32 → bt ((1 : Int32) <<< (nI e &&& 31)) j = decide (j = e) := by decide +kernel
theorem dr_i8 : ∀ n, n < 32 → (nI n).toInt8.toInt32 = nI n := by decide +kernel
theorem dr_nar {n : Nat} (h : n < 32) : vp_nar .byte (nI n) = nI n := by rw [vp_nar_byte, dr_i8 n h]
theorem dr_nar8 {n : Nat} (h : n < 32) : vp_nar .byte ((nI n).toInt8.toInt32) = nI n := by rw [dr_i8 n h, dr_nar h]
theorem dr_bool (b : Bool) : vp_nar .boolean (nI b.toNat) = nI b.toNat := by cases b <;> rfl
theorem dr_10 (l k : Nat) : 10 * nI l + nI k = nI (10 * l + k) := by
  show nI 10 * nI l + nI k = _
  rw [pk_mul, nI_add]
theorem dr_10' (l : Nat) : 10 * nI l = nI (10 * l) := pk_mul 10 l
theorem dr_16 (j i : Nat) : 16 * nI j + nI i = nI (16 * j + i) := by
  show nI 16 * nI j + nI i = _
  rw [pk_mul, nI_add]
theorem dr_rg (x : Int32) {n : Nat} (hn : n < 2 ^ 31) : x < 0 ∨ (¬ x < 0 ∧ nI n < x) ∨ ∃ j : Nat, j ≤ n ∧ x = nI j := by
  by_cases h : x < 0
  · exact Or.inl h
  · obtain ⟨j, hj, rfl⟩ := nI_of h
    by_cases h2 : j ≤ n
    · exact Or.inr (Or.inr ⟨j, h2, rfl⟩)
    · exact Or.inr (Or.inl ⟨h, nI_lt (by omega) hj⟩)
/-- a layer, or not -/
theorem dr_lay (x : Int32) : (x < 0 ∨ (¬ x < 0 ∧ 2 < x)) ∨ ∃ l : Nat, l < 3 ∧ x = nI l := by
  rcases dr_rg x (n := 2) (by decide) with h | h | ⟨j, h, e⟩
  · exact Or.inl (Or.inl h)
  · exact Or.inl (Or.inr h)
  · exact Or.inr ⟨j, by omega, e⟩
theorem dr_lay_n {l : Nat} (h : l < 3) : ¬ nI l < 0 ∧ ¬ 2 < nI l := ⟨nI_pos (by omega), nI_nlt (a := 2) (b := l) (by omega) (by decide)⟩
theorem dr_xl1 {post : Int32 → Prop} {u : SX} {l : Nat} (hl : l < 3) (h : post 1) : wpX_isLayer post u (nI l) := by
  obtain ⟨f, ct, lf, rt, ro, sx, st, mk, cl⟩ := u
  exact br_f (dr_lay_n hl).1 (br_f (dr_lay_n hl).2 h)
theorem dr_xl0 {post : Int32 → Prop} {u : SX} {x : Int32} (hx : x < 0 ∨ (¬ x < 0 ∧ 2 < x)) (h : post 0) : wpX_isLayer post u x := by
  obtain ⟨f, ct, lf, rt, ro, sx, st, mk, cl⟩ := u
  rcases hx with z | ⟨y, z⟩
  · exact br_t z h
  · exact br_f y (br_t z h)
theorem dr_yl1 {post : Int32 → Prop} {u : SY} {l : Nat} (hl : l < 3) (h : post 1) : wpY_isLayer post u (nI l) := by
  obtain ⟨ct, lf, rt, bo, tp, se⟩ := u
  exact br_f (dr_lay_n hl).1 (br_f (dr_lay_n hl).2 h)
theorem dr_yl0 {post : Int32 → Prop} {u : SY} {x : Int32} (hx : x < 0 ∨ (¬ x < 0 ∧ 2 < x)) (h : post 0) : wpY_isLayer post u x := by
  obtain ⟨ct, lf, rt, bo, tp, se⟩ := u
  rcases hx with z | ⟨y, z⟩
  · exact br_t z h
  · exact br_f y (br_t z h)
/-! ===== the relation ===== -/
def dr_RP (c L R B T : Nat → Nat) : Prop := ∀ l, l < 3 → c l ≤ 10 ∧ ∀ k, k < c l →
  L (10 * l + k) < R (10 * l + k) ∧ R (10 * l + k) ≤ 16 ∧ B (10 * l + k) < T (10 * l + k) ∧ T (10 * l + k) ≤ 16
def dr_RX (c L R B T : Nat → Nat) (ct lf rt ro : Nat → Int32) : Prop := ∀ l, l < 3 → ct l = nI (c l) ∧ ∀ k, k < c l →
  lf (10 * l + k) = nI (L (10 * l + k)) ∧ rt (10 * l + k) = nI (R (10 * l + k)) ∧ (∀ j, j < 32 → bt (ro (10 * l + k)) j = decide (B (10 * l + k) ≤ j ∧ j < T (10 * l + k)))
def dr_RY (c L R B T : Nat → Nat) (ct lf rt bo tp : Nat → Int32) : Prop := ∀ l, l < 3 → ct l = nI (c l) ∧ ∀ k, k < c l →
  lf (10 * l + k) = nI (L (10 * l + k)) ∧ rt (10 * l + k) = nI (R (10 * l + k)) ∧ bo (10 * l + k) = nI (B (10 * l + k)) ∧ tp (10 * l + k) = nI (T (10 * l + k))
/-- one of the first n rectangles of a layer covers the cell -/
def dr_hs (L R B T : Nat → Nat) (l i j : Nat) : Nat → Bool
  | 0 => false
  | n + 1 => dr_hs L R B T l i j n || decide (L (10 * l + n) ≤ i ∧ i < R (10 * l + n) ∧ B (10 * l + n) ≤ j ∧ j < T (10 * l + n))
theorem dr_hs_s (L R B T : Nat → Nat) (l i j n : Nat) : dr_hs L R B T l i j (n + 1) = (dr_hs L R B T l i j n || decide (L (10 * l + n) ≤ i ∧ i < R (10 * l + n) ∧ B (10 * l + n) ≤ j ∧ j < T (10 * l + n))) := rfl
def dr_cv (c L R B T : Nat → Nat) (l i j : Nat) : Bool := dr_hs L R B T l i j (c l)
theorem dr_hs_mono {L R B T : Nat → Nat} {l i j m : Nat} : ∀ {n}, m ≤ n → dr_hs L R B T l i j m = true → dr_hs L R B T l i j n = true := by
  intro n
  induction n with
  | zero =>
    intro h e
    rw [show m = 0 by omega] at e
    exact e
  | succ n ih =>
    intro h e
    rcases Nat.lt_or_ge n m with z | z
    · rw [show n + 1 = m by omega]
      exact e
    · rw [dr_hs_s, ih z e, Bool.true_or]
theorem dr_hs_j {c L R B T : Nat → Nat} (HP : dr_RP c L R B T) {l i j : Nat} (hl : l < 3) : ∀ n, n ≤ c l → dr_hs L R B T l i j n = true → j < 16 ∧ i < 16 := by
  intro n
  induction n with
  | zero => intro _ e; exact Bool.noConfusion e
  | succ n ih =>
    intro hn e
    rw [dr_hs_s, Bool.or_eq_true, decide_eq_true_eq] at e
    rcases e with e | e
    · exact ih (by omega) e
    · have := (HP l hl).2 n (by omega)
      omega
theorem dr_cv_j {c L R B T : Nat → Nat} (HP : dr_RP c L R B T) {l i j : Nat} (hl : l < 3) (e : dr_cv c L R B T l i j = true) : j < 16 := (dr_hs_j HP hl (c l) (Nat.le_refl _) e).1
/-- the upright lines of the first n rectangles of a layer -/
def dr_ls (L R : Nat → Nat) (l x : Nat) : Nat → Bool
  | 0 => false
  | n + 1 => dr_ls L R l x n || (decide (x = L (10 * l + n)) || decide (x = R (10 * l + n)))
theorem dr_ls_s (L R : Nat → Nat) (l x n : Nat) : dr_ls L R l x (n + 1) = (dr_ls L R l x n || (decide (x = L (10 * l + n)) || decide (x = R (10 * l + n)))) := rfl
/-- where no line lies, the cover doesn't change -/
theorem dr_hs_ln {L R B T : Nat → Nat} {l i x j : Nat} (hx : x ≤ i) : ∀ n, (∀ y, x < y → y ≤ i → dr_ls L R l y n = false) → dr_hs L R B T l i j n = dr_hs L R B T l x j n := by
  intro n
  induction n with
  | zero => intro _; rfl
  | succ n ih =>
    intro h
    have h1 : ∀ y, x < y → y ≤ i → dr_ls L R l y n = false := fun y y1 y2 => by
      have := h y y1 y2
      rw [dr_ls_s, Bool.or_eq_false_iff] at this
      exact this.1
    have h2 : ∀ y, x < y → y ≤ i → y ≠ L (10 * l + n) ∧ y ≠ R (10 * l + n) := fun y y1 y2 => by
      have := h y y1 y2
      rw [dr_ls_s, Bool.or_eq_false_iff, Bool.or_eq_false_iff, decide_eq_false_iff_not, decide_eq_false_iff_not] at this
      exact this.2
    rw [dr_hs_s, dr_hs_s, ih h1]
    congr 1
    apply decide_eq_decide.mpr
    have a : L (10 * l + n) ≤ i ↔ L (10 * l + n) ≤ x := by
      constructor
      · intro z
        rcases Nat.lt_or_ge x (L (10 * l + n)) with y | y
        · exact absurd rfl (h2 _ y z).1
        · exact y
      · intro z; omega
    have b : i < R (10 * l + n) ↔ x < R (10 * l + n) := by
      constructor
      · intro z; omega
      · intro z
        rcases Nat.lt_or_ge i (R (10 * l + n)) with y | y
        · exact y
        · exact absurd rfl (h2 _ z y).2
    rw [a, b]
end
section
section
variable {c L R B T : Nat → Nat} {f : Int32} {ct lf rt ro sx st mk cl : Nat → Int32} {yc yl yr yb yt ys : Nat → Int32}
theorem dr_rows_lp {post : Int32 → Prop} {l i : Nat} (hl : l < 3) (hi : i < 1000) (HP : dr_RP c L R B T) (HX : dr_RX c L R B T ct lf rt ro)
    (hp : ∀ r, (∀ j, j < 32 → bt r j = dr_cv c L R B T l i j) → post r) :
    ∀ n k x3, k ≤ c l → c l - k < n → (∀ j, j < 32 → bt x3 j = dr_hs L R B T l i j k) →
      wX_rowsAt_8 post (nI l) (nI i) f ct lf rt ro sx st mk cl n x3 (nI (10 * l + k)) := by
  intro n
  induction n with
  | zero => intro k x3 hk hn; omega
  | succ n ih =>
    intro k x3 hk hn hb
    obtain ⟨e1, e3⟩ := HX l hl
    obtain ⟨p1, p3⟩ := HP l hl
    rw [wX_rowsAt_8]
    dsimp only
    rw [nI_clamp (by omega : l < 2 ^ 31), nI_clamp (by omega : 10 * l + k < 2 ^ 31), e1, dr_10]
    refine ⟨vp_in_nI hl (by decide), pk_le (10 * l + c l) (10 * l + k) (fun z => ?_) (fun z => ?_)⟩
    · have : k = c l := by omega
      subst this
      exact hp x3 hb
    · obtain ⟨q1, q2, q3⟩ := e3 k (by omega)
      obtain ⟨r1, r2, r3, r4⟩ := p3 k (by omega)
      rw [q1, q2]
      have i30 : vp_in (nI (10 * l + k)) 30 := vp_in_nI (by omega) (by decide)
      have no : ¬ (L (10 * l + k) ≤ i ∧ i < R (10 * l + k)) → ∀ j, j < 32 → bt x3 j = dr_hs L R B T l i j (k + 1) := fun w j hj => by
        rw [hb j hj, dr_hs_s, decide_eq_false (by omega), Bool.or_false]
      refine ⟨i30, pk_lt i (L (10 * l + k)) (fun y => nm_r (nI_1 _) (ih (k + 1) x3 (by omega) (by omega) (no (by omega)))) (fun y => ⟨i30, ?_⟩)⟩
      refine pk_le (R (10 * l + k)) i (fun w => nm_r (nI_1 _) (ih (k + 1) x3 (by omega) (by omega) (no (by omega)))) (fun w => ⟨i30, nm_e (nm_r (nI_1 _) (ih (k + 1) _ (by omega) (by omega) (fun j hj => ?_)))⟩)
      rw [b_or, hb j hj, q3 j hj, dr_hs_s]
      congr 1
      apply decide_eq_decide.mpr
      omega
theorem dr_rows {post : Int32 → Prop} {l i : Nat} (hl : l < 3) (hi : i < 1000) (HP : dr_RP c L R B T) (HX : dr_RX c L R B T ct lf rt ro)
    (hp : ∀ r, (∀ j, j < 32 → bt r j = dr_cv c L R B T l i j) → post r) : wpX_rowsAt post (f, ct, lf, rt, ro, sx, st, mk, cl) (nI l) (nI i) := by
  refine nm_r (dr_10' l) ⟨c l + 1, ?_⟩
  exact dr_rows_lp hl hi HP HX hp (c l + 1) 0 0 (by omega) (by omega) (fun j _ => b_0 j)
theorem dr_has_lp {post : Int32 → Prop} {l i j : Nat} (hl : l < 3) (hi : i < 1000) (hj : j < 1000) (HP : dr_RP c L R B T) (HY : dr_RY c L R B T yc yl yr yb yt)
    (hp : post (nI (dr_cv c L R B T l i j).toNat)) :
    ∀ n k, k ≤ c l → c l - k < n → dr_hs L R B T l i j k = false →
      wY_has_6 post (nI l) (nI i) (nI j) yc yl yr yb yt ys n (nI (10 * l + k)) := by
  intro n
  induction n with
  | zero => intro k hk hn; omega
  | succ n ih =>
    intro k hk hn hb
    obtain ⟨e1, e3⟩ := HY l hl
    obtain ⟨p1, p3⟩ := HP l hl
    rw [wY_has_6]
    dsimp only
    rw [nI_clamp (by omega : l < 2 ^ 31), nI_clamp (by omega : 10 * l + k < 2 ^ 31), e1, dr_10]
    refine ⟨vp_in_nI hl (by decide), pk_le (10 * l + c l) (10 * l + k) (fun z => ?_) (fun z => ?_)⟩
    · have : k = c l := by omega
      subst this
      have e : dr_cv c L R B T l i j = false := hb
      rw [e] at hp
      exact hp
    · obtain ⟨q1, q2, q3, q4⟩ := e3 k (by omega)
      obtain ⟨r1, r2, r3, r4⟩ := p3 k (by omega)
      rw [q1, q2, q3, q4]
      have i30 : vp_in (nI (10 * l + k)) 30 := vp_in_nI (by omega) (by decide)
      have no : ¬ (L (10 * l + k) ≤ i ∧ i < R (10 * l + k) ∧ B (10 * l + k) ≤ j ∧ j < T (10 * l + k)) → dr_hs L R B T l i j (k + 1) = false := fun w => by
        rw [dr_hs_s, hb, decide_eq_false w]
        rfl
      refine ⟨i30, pk_lt i (L (10 * l + k)) (fun y => nm_r (nI_1 _) (ih (k + 1) (by omega) (by omega) (no (by omega)))) (fun y => ⟨i30, ?_⟩)⟩
      refine pk_le (R (10 * l + k)) i (fun w => nm_r (nI_1 _) (ih (k + 1) (by omega) (by omega) (no (by omega)))) (fun w => ⟨i30, ?_⟩)
      refine pk_lt j (B (10 * l + k)) (fun y => nm_r (nI_1 _) (ih (k + 1) (by omega) (by omega) (no (by omega)))) (fun y => ⟨i30, ?_⟩)
      refine pk_le (T (10 * l + k)) j (fun w => nm_r (nI_1 _) (ih (k + 1) (by omega) (by omega) (no (by omega)))) (fun w => ?_)
      have e : dr_cv c L R B T l i j = true := by
        refine dr_hs_mono (m := k + 1) (by omega) ?_
        rw [dr_hs_s, decide_eq_true (by omega), Bool.or_true]
      rw [e] at hp
      exact hp
theorem dr_has {post : Int32 → Prop} {l i j : Nat} (hl : l < 3) (hi : i < 1000) (hj : j < 1000) (HP : dr_RP c L R B T) (HY : dr_RY c L R B T yc yl yr yb yt)
    (hp : post (nI (dr_cv c L R B T l i j).toNat)) : wpY_has post (yc, yl, yr, yb, yt, ys) (nI l) (nI i) (nI j) := by
  refine nm_r (dr_10' l) ⟨c l + 1, ?_⟩
  exact dr_has_lp hl hi hj HP HY hp (c l + 1) 0 (by omega) (by omega) rfl
theorem dr_lines_lp {post : Int32 → Prop} {l : Nat} (hl : l < 3) (HP : dr_RP c L R B T) (HX : dr_RX c L R B T ct lf rt ro)
    (hp : ∀ r, (∀ x, x < 32 → bt r x = dr_ls L R l x (c l)) → post r) :
    ∀ n k x2, k ≤ c l → c l - k < n → (∀ x, x < 32 → bt x2 x = dr_ls L R l x k) →
      wX_linesOf_7 post (nI l) f ct lf rt ro sx st mk cl n x2 (nI (10 * l + k)) := by
  intro n
  induction n with
  | zero => intro k x2 hk hn; omega
  | succ n ih =>
    intro k x2 hk hn hb
    obtain ⟨e1, e3⟩ := HX l hl
    obtain ⟨p1, p3⟩ := HP l hl
    rw [wX_linesOf_7]
    dsimp only
    rw [nI_clamp (by omega : l < 2 ^ 31), nI_clamp (by omega : 10 * l + k < 2 ^ 31), e1, dr_10]
    refine ⟨vp_in_nI hl (by decide), pk_le (10 * l + c l) (10 * l + k) (fun z => ?_) (fun z => ?_)⟩
    · have : k = c l := by omega
      subst this
      exact hp x2 hb
    · obtain ⟨q1, q2, q3⟩ := e3 k (by omega)
      obtain ⟨r1, r2, r3, r4⟩ := p3 k (by omega)
      rw [q1, q2]
      have i30 : vp_in (nI (10 * l + k)) 30 := vp_in_nI (by omega) (by decide)
      refine ⟨i30, i30, nm_e (nm_r (nI_1 _) (ih (k + 1) _ (by omega) (by omega) (fun x hx => ?_)))⟩
      rw [b_or, b_or, hb x hx, dr_one _ (by omega) x hx, dr_one _ (by omega) x hx, dr_ls_s]
theorem dr_lines {post : Int32 → Prop} {l : Nat} (hl : l < 3) (HP : dr_RP c L R B T) (HX : dr_RX c L R B T ct lf rt ro)
    (hp : ∀ r, (∀ x, x < 32 → bt r x = dr_ls L R l x (c l)) → post r) : wpX_linesOf post (f, ct, lf, rt, ro, sx, st, mk, cl) (nI l) := by
  refine nm_r (dr_10' l) ⟨c l + 1, ?_⟩
  exact dr_lines_lp hl HP HX hp (c l + 1) 0 0 (by omega) (by omega) (fun j _ => b_0 j)
end
end
section
/-! ===== the sweep ===== -/
def dr_op (h : Nat) (p q : Bool) : Bool := if h = 0 then p && q else if h = 1 then p || q else p && !q
def dr_g (c L R B T : Nat → Nat) (h a b i j : Nat) : Bool := dr_op h (dr_cv c L R B T a i j) (dr_cv c L R B T b i j)
theorem dr_op_f (h : Nat) : dr_op h false false = false := by
  unfold dr_op
  split
  · rfl
  · split <;> rfl
theorem dr_g_j {c L R B T : Nat → Nat} (HP : dr_RP c L R B T) {h a b i j : Nat} (ha : a < 3) (hb : b < 3) (hj : 16 ≤ j) : dr_g c L R B T h a b i j = false := by
  have e : ∀ l, l < 3 → dr_cv c L R B T l i j = false := fun l hl => by
    cases z : dr_cv c L R B T l i j with
    | false => rfl
    | true =>
      have := dr_cv_j HP hl z
      omega
  unfold dr_g
  rw [e a ha, e b hb, dr_op_f]
def dr_Ln (ln : Nat → Bool) (x s : Nat) (X : Nat → Nat) : Prop :=
  s ≤ x ∧ (0 < x → 0 < s ∧ X 0 = 0) ∧ (∀ k, k < s → X k < x) ∧ (∀ k, k + 1 < s → X k < X (k + 1) ∧ ∀ y, X k < y → y < X (k + 1) → ln y = false) ∧
    (0 < s → ∀ y, X (s - 1) < y → y < x → ln y = false)
theorem dr_Ln_0 {ln : Nat → Bool} {x s : Nat} {X : Nat → Nat} (h : dr_Ln ln x s X) (h0 : ln 0 = true) (hx : ln x = false) : dr_Ln ln (x + 1) s X := by
  obtain ⟨h1, h2, h3, h4, h5⟩ := h
  have x0 : 0 < x := by
    rcases Nat.eq_zero_or_pos x with z | z
    · rw [z, h0] at hx
      exact Bool.noConfusion hx
    · exact z
  refine ⟨by omega, fun _ => h2 x0, fun k hk => by have := h3 k hk; omega, h4, fun s0 y y1 y2 => ?_⟩
  rcases Nat.lt_or_ge y x with z | z
  · exact h5 s0 y y1 z
  · rw [show y = x by omega]
    exact hx
theorem dr_Ln_1 {ln : Nat → Bool} {x s : Nat} {X X' : Nat → Nat} (h : dr_Ln ln x s X) (e1 : X' s = x) (e2 : ∀ k, k < s → X' k = X k) : dr_Ln ln (x + 1) (s + 1) X' := by
  obtain ⟨h1, h2, h3, h4, h5⟩ := h
  refine ⟨by omega, fun _ => ⟨by omega, ?_⟩, fun k hk => ?_, fun k hk => ?_, fun _ y y1 y2 => ?_⟩
  · rcases Nat.eq_zero_or_pos s with z | z
    · have x0 : x = 0 := by
        rcases Nat.eq_zero_or_pos x with y | y
        · exact y
        · have := (h2 y).1
          omega
      rw [z] at e1
      omega
    · rw [e2 0 z]
      exact (h2 (by omega)).2
  · rcases Nat.lt_or_ge k s with z | z
    · rw [e2 k z]
      have := h3 k z
      omega
    · rw [show k = s by omega, e1]
      omega
  · rcases Nat.lt_or_ge (k + 1) s with z | z
    · rw [e2 k (by omega), e2 (k + 1) z]
      exact h4 k z
    · have es : s = k + 1 := by omega
      subst es
      rw [e2 k (by omega), e1]
      exact ⟨h3 k (by omega), fun y y1 y2 => h5 (by omega) y y1 y2⟩
  · rw [show s + 1 - 1 = s by omega, e1] at y1
    omega
theorem dr_Ln_e {ln : Nat → Bool} {s : Nat} {X : Nat → Nat} (h : dr_Ln ln 17 s X) (h16 : ln 16 = true) :
    ∃ S, s = S + 1 ∧ dr_St S X ∧ ∀ k, k < S → ∀ y, X k < y → y < X (k + 1) → ln y = false := by
  obtain ⟨h1, h2, h3, h4, h5⟩ := h
  obtain ⟨s0, x0⟩ := h2 (by omega)
  obtain ⟨S, rfl⟩ : ∃ S, s = S + 1 := ⟨s - 1, by omega⟩
  refine ⟨S, rfl, ⟨x0, ?_, fun k hk => (h4 k (by omega)).1⟩, fun k hk => (h4 k (by omega)).2⟩
  have z := h3 S (by omega)
  rcases Nat.lt_or_ge (X S) 16 with y | y
  · have := h5 s0 16 y (by omega)
    rw [h16] at this
    exact Bool.noConfusion this
  · omega
theorem dr_b65536 : ∀ i, i < 32 → bt 65536 i = decide (i = 16) := by decide +kernel
/-- what a sweep leaves behind -/
def dr_SW (S : Nat) (X : Nat → Nat) (g : Nat → Nat → Bool) (sx st : Nat → Int32) : Prop :=
  dr_St S X ∧ dr_K S X g ∧ (∀ k, k ≤ S → sx k = nI (X k)) ∧ (∀ k, k < S → ∀ j, j < 32 → bt (st k) j = dr_pd g (X k + 1) (j + 1))
section
variable {c L R B T : Nat → Nat} {f : Int32} {ct lf rt ro sx st mk cl : Nat → Int32}
theorem dr_sw77 {post : SX → Prop} {h a b S : Nat} {X : Nat → Nat} (hh : h < 3) (ha : a < 3) (hb : b < 3) (HP : dr_RP c L R B T) (HX : dr_RX c L R B T ct lf rt ro)
    (hS : dr_St S X) (hsx : ∀ k, k ≤ S → sx k = nI (X k))
    (hp : ∀ st', (∀ k, k < S → ∀ j, j < 32 → bt (st' k) j = dr_g c L R B T h a b (X k) j) → post (nI S, ct, lf, rt, ro, sx, st', mk, cl)) :
    ∀ n k st, k ≤ S → S - k < n → (∀ i, i < k → ∀ j, j < 32 → bt (st i) j = dr_g c L R B T h a b (X i) j) →
      wX_sweep_77 post (nI h) (nI a) (nI b) (nI S) n (nI k) ct lf rt ro sx st mk cl := by
  have s16 := dr_S16 hS
  intro n
  induction n with
  | zero => intro k st hk hn; omega
  | succ n ih =>
    intro k st hk hn hb'
    rw [wX_sweep_77]
    dsimp only
    rw [nI_clamp (by omega : k < 2 ^ 31), hsx k hk]
    have x16 := dr_X16 hS hk
    refine pk_le S k (fun z => ?_) (fun z => ⟨vp_in_nI (by omega) (by decide), ?_⟩)
    · have : k = S := by omega
      subst this
      exact hp st hb'
    · refine dr_rows ha (by omega) HP HX (fun r hr => ⟨vp_in_nI (by omega) (by decide), ?_⟩)
      refine dr_rows hb (by omega) HP HX (fun r' hr' => ?_)
      have i17 : vp_in (nI k) 17 := vp_in_nI (by omega) (by decide)
      have step : ∀ v : Int32, (∀ j, j < 32 → bt v j = dr_g c L R B T h a b (X k) j) → wX_sweep_77 post (nI h) (nI a) (nI b) (nI S) n (nI (k + 1)) ct lf rt ro sx (upd st k v) mk cl := by
        intro v hv
        refine ih (k + 1) _ (by omega) (by omega) (fun i hi j hj => ?_)
        by_cases e : i = k
        · subst e
          rw [pk_us]
          exact hv j hj
        · rw [pk_un e]
          exact hb' i (by omega) j hj
      refine pk_eq h 0 (fun e => ⟨i17, nm_e (nm_r (nI_1 _) (step _ (fun j hj => ?_)))⟩) (fun e => ?_)
      · unfold dr_g dr_op
        rw [if_pos e, b_and, hr j hj, hr' j hj]
      · refine pk_eq h 1 (fun e1 => ⟨i17, nm_e (nm_r (nI_1 _) (step _ (fun j hj => ?_)))⟩) (fun e1 => ⟨i17, nm_e (nm_r (nI_1 _) (step _ (fun j hj => ?_)))⟩)
        · unfold dr_g dr_op
          rw [if_neg e, if_pos e1, b_or, hr j hj, hr' j hj]
        · unfold dr_g dr_op
          rw [if_neg e, if_neg e1, b_and, b_xor, b_m1 j hj, hr j hj, hr' j hj, Bool.xor_true]
theorem dr_sw26 {post : SX → Prop} {h a b : Nat} {x4 : Int32} {ln : Nat → Bool} (hln : ∀ x, x < 32 → bt x4 x = ln x) (h0 : ln 0 = true) (h16 : ln 16 = true)
    (hE : ∀ sx' S X, dr_St S X → (∀ k, k < S → ∀ y, X k < y → y < X (k + 1) → ln y = false) → (∀ k, k ≤ S → sx' k = nI (X k)) →
      ∃ n, wX_sweep_77 post (nI h) (nI a) (nI b) (nI S) n 0 ct lf rt ro sx' st mk cl) :
    ∀ n x s X f sx, x ≤ 17 → 17 - x < n → dr_Ln ln x s X → f + 1 = nI s → (∀ k, k < s → sx k = nI (X k)) →
      wX_sweep_26 post (nI h) (nI a) (nI b) x4 n (nI x) f ct lf rt ro sx st mk cl := by
  intro n
  induction n with
  | zero => intro x s X f sx hx hn; omega
  | succ n ih =>
    intro x s X f sx hx hn hL hf hs
    rw [wX_sweep_26]
    dsimp only
    refine pk_lt 16 x (fun z => ?_) (fun z => ?_)
    · have : x = 17 := by omega
      subst this
      obtain ⟨S, rfl, hS, hN⟩ := dr_Ln_e hL h16
      have ef : f = nI S := by
        rw [← nI_1] at hf
        exact (Int32.add_left_inj 1).mp hf
      rw [ef]
      exact hE sx S X hS hN (fun k hk => hs k (by omega))
    · refine dr_brb x4 (by omega) (fun e => ?_) (fun e => ?_)
      · rw [hln x (by omega)] at e
        exact nm_r (nI_1 _) (ih (x + 1) s X f sx (by omega) (by omega) (dr_Ln_0 hL h0 e) hf hs)
      · have sx := hL.1
        refine nm_r hf ⟨vp_in_nI (by omega) (by decide), ?_⟩
        rw [nI_clamp (by omega : s < 2 ^ 31), dr_nar8 (by omega : x < 32)]
        refine nm_e (nm_r (nI_1 _) (ih (x + 1) (s + 1) (fun k => if k = s then x else X k) (nI s) _ (by omega) (by omega) (dr_Ln_1 hL (if_pos rfl) (fun k hk => if_neg (by omega))) (nI_1 s) (fun k hk => ?_)))
        by_cases ek : k = s
        · subst ek
          rw [pk_us, if_pos rfl]
        · rw [pk_un ek, if_neg ek]
          exact hs k (by omega)
theorem dr_sweep {post : SX → Prop} {h a b : Nat} (hh : h < 3) (ha : a < 3) (hb : b < 3) (HP : dr_RP c L R B T) (HX : dr_RX c L R B T ct lf rt ro)
    (hp : ∀ S X sx' st', dr_SW S X (dr_g c L R B T h a b) sx' st' → post (nI S, ct, lf, rt, ro, sx', st', mk, cl)) :
    wpX_sweep post (f, ct, lf, rt, ro, sx, st, mk, cl) (nI h) (nI a) (nI b) := by
  unfold wpX_sweep
  dsimp only
  refine dr_lines ha HP HX (fun r hr => ?_)
  refine dr_lines hb HP HX (fun r' hr' => ?_)
  refine nm_e ⟨18, ?_⟩
  refine dr_sw26 (ln := fun x => ((dr_ls L R a x (c a) || dr_ls L R b x (c b)) || decide (x = 0)) || decide (x = 16)) (fun x hx => ?_) ?_ ?_ (fun sx' S X hS hN hs => ⟨S + 1, ?_⟩) 18 0 0 (fun _ => 0) (-1) sx (by omega) (by omega) ?_ rfl (fun k hk => by omega)
  · rw [b_or, b_or, b_or, hr x hx, hr' x hx, dr_b1 x hx, dr_b65536 x hx]
  · simp
  · simp
  · refine dr_sw77 hh ha hb HP HX hS hs (fun st' hst => hp S X sx' st' ⟨hS, ?_, hs, fun k hk j hj => ?_⟩) (S + 1) 0 st (by omega) (by omega) (fun i hi => by omega)
    · intro k hk i i1 i2 j
      have e : ∀ y, X k < y → y ≤ i → dr_ls L R a y (c a) = false ∧ dr_ls L R b y (c b) = false := fun y y1 y2 => by
        have := hN k hk y y1 (by omega)
        simp only [Bool.or_eq_false_iff] at this
        exact ⟨this.1.1.1, this.1.1.2⟩
      unfold dr_g dr_cv
      rw [dr_hs_ln i1 (c a) (fun y y1 y2 => (e y y1 y2).1), dr_hs_ln i1 (c b) (fun y y1 y2 => (e y y1 y2).2)]
    · rw [hst k hk j hj]
      have x1 := hS.2.2 k hk
      have x2 := dr_X16 hS (k := k + 1) (by omega)
      rcases Nat.lt_or_ge j 16 with z | z
      · rw [dr_pd_in (by omega) z]
      · rw [dr_pd_out (by omega), dr_g_j HP ha hb z]
  · exact ⟨by omega, fun z => by omega, fun k hk => by omega, fun k hk => by omega, fun z => by omega⟩
end
end
section
/-! ===== X: bitsIn, widthOf, area, outline, corners ===== -/
theorem dr_lw (W : Nat → Int32 → Int32 → Prop) (F : Nat → Nat) (A e : Nat) (hx : ∀ n, W (n + 1) (nI (A + dr_sm F e)) (nI e))
    (hs : ∀ n i, i < e → W n (nI (A + (dr_sm F i + F i))) (nI (i + 1)) → W (n + 1) (nI (A + dr_sm F i)) (nI i)) : ∃ n, W n (nI A) 0 := by
  have key : ∀ n i, i ≤ e → e - i < n → W n (nI (A + dr_sm F i)) (nI i) := by
    intro n
    induction n with
    | zero => intro i h1 h2; omega
    | succ n ih =>
      intro i h1 h2
      rcases Nat.lt_or_ge i e with z | z
      · exact hs n i z (ih (i + 1) (by omega) (by omega))
      · rw [show i = e by omega]
        exact hx n
  exact ⟨e + 1, key (e + 1) 0 (by omega) (by omega)⟩
theorem dr_shl1 (x : Int32) {i : Nat} (hi : i < 32) : bt (x <<< ((1 : Int32) &&& 31)) i = (decide (1 ≤ i) && bt x (i - 1)) := b_shl 1 (by decide) x hi
theorem dr_sshr1 (x : Int32) {i : Nat} (hi : i < 32) : bt (x >>> ((1 : Int32) &&& 31)) i = if 1 + i < 32 then bt x (1 + i) else bt x 31 := b_sshr 1 (by decide) x hi
section
variable {c L R B T : Nat → Nat} {f : Int32} {ct lf rt ro sx st mk cl : Nat → Int32}
theorem dr_bits {post : Int32 → Prop} (x : Int32) (hp : post (nI (dr_sm (fun j => (bt x j).toNat) 18))) : wpX_bitsIn post (f, ct, lf, rt, ro, sx, st, mk, cl) x := by
  refine dr_lw (fun n a i => wX_bitsIn_4 post x f ct lf rt ro sx st mk cl n a i) (fun j => (bt x j).toNat) 0 18 (fun n => ?_) (fun n j hj K => ?_)
  · rw [wX_bitsIn_4, Nat.zero_add]
    exact br_t (nI_le (a := 18) (b := 18) (by omega) (by decide)) hp
  · rw [wX_bitsIn_4]
    dsimp only
    refine br_f (nI_ge (a := j) (b := 18) (by omega) (by decide)) (nm_r ?_ (nm_r (nI_1 _) K))
    rw [dr_bit x (by omega), nI_add, Nat.add_assoc]
/-- bitsIn by a name for the bits -/
theorem dr_bitsF {post : Int32 → Prop} (x : Int32) (p : Nat → Bool) (h : ∀ j, j < 18 → bt x j = p j) (hp : post (nI (dr_sm (fun j => (p j).toNat) 18))) : wpX_bitsIn post (f, ct, lf, rt, ro, sx, st, mk, cl) x := by
  refine dr_bits x ?_
  rw [dr_sm_congr (fun j hj => by rw [h j hj] : ∀ j, j < 18 → (bt x j).toNat = (p j).toNat)]
  exact hp
theorem dr_width {post : Int32 → Prop} {S k : Nat} {X : Nat → Nat} (hS : dr_St S X) (hs : ∀ k, k ≤ S → sx k = nI (X k)) (hk : k < S) (hp : post (nI (X (k + 1) - X k))) :
    wpX_widthOf post (f, ct, lf, rt, ro, sx, st, mk, cl) (nI k) := by
  have s16 := dr_S16 hS
  unfold wpX_widthOf
  dsimp only
  rw [nI_1, nI_clamp (by omega : k < 2 ^ 31), nI_clamp (by omega : k + 1 < 2 ^ 31), hs k (by omega), hs (k + 1) (by omega), pk_sub (Nat.le_of_lt (hS.2.2 k hk))]
  exact ⟨vp_in_nI (by omega) (by decide), vp_in_nI (by omega) (by decide), hp⟩
theorem dr_xarea {post : Int32 → SX → Prop} {S : Nat} {X : Nat → Nat} {g : Nat → Nat → Bool} (H : dr_SW S X g sx st)
    (hp : post (nI (dr_sm (dr_F0 g) 16)) (nI S, ct, lf, rt, ro, sx, st, mk, cl)) : ∃ n, wX_area_41 post (nI S) ct lf rt ro sx st mk cl n 0 0 := by
  obtain ⟨hS, hK, hs, hb⟩ := H
  have s16 := dr_S16 hS
  refine dr_lw (fun n a i => wX_area_41 post (nI S) ct lf rt ro sx st mk cl n a i) (fun k => (X (k + 1) - X k) * dr_F0 g (X k)) 0 S (fun n => ?_) (fun n k hk K => ?_)
  · rw [wX_area_41, Nat.zero_add, dr_K_F0 hS hK]
    exact br_t (nI_le (Nat.le_refl S) (by omega)) hp
  · rw [wX_area_41]
    dsimp only
    rw [nI_clamp (by omega : k < 2 ^ 31)]
    refine br_f (nI_ge hk (by omega)) (dr_width hS hs hk ⟨vp_in_nI (by omega) (by decide), ?_⟩)
    refine dr_bitsF (st k) (fun j => dr_pd g (X k + 1) (j + 1)) (fun j hj => hb k hk j (by omega)) (nm_r ?_ (nm_r (nI_1 _) K))
    rw [pk_mul, nI_add, Nat.add_assoc]
    rfl
theorem dr_xout_lp {post : Int32 → SX → Prop} {S : Nat} {X : Nat → Nat} {g : Nat → Nat → Bool} (H : dr_SW S X g sx st)
    (hp : post (nI (dr_sm (dr_F1 g) 17 + dr_sm (dr_F2 g) 16)) (nI S, ct, lf, rt, ro, sx, st, mk, cl)) :
    ∀ n k x5, k ≤ S → S - k < n → (∀ j, j < 32 → bt x5 j = dr_pd g (X k) (j + 1)) →
      wX_outline_44 post (nI S) ct lf rt ro sx st mk cl n (nI (dr_sm (fun k => dr_F1 g (X k)) k + dr_sm (fun k => (X (k + 1) - X k) * dr_F2 g (X k)) k)) x5 (nI k) := by
  obtain ⟨hS, hK, hs, hb⟩ := H
  have s16 := dr_S16 hS
  intro n
  induction n with
  | zero => intro k x5 hk hn; omega
  | succ n ih =>
    intro k x5 hk hn hx
    rw [wX_outline_44]
    dsimp only
    rw [nI_clamp (by omega : k < 2 ^ 31)]
    refine pk_le S k (fun z => ?_) (fun z => ⟨vp_in_nI (by omega) (by decide), ?_⟩)
    · have : k = S := by omega
      subst this
      refine dr_bitsF x5 (fun j => dr_pd g (X k) (j + 1) ^^ dr_pd g (X k + 1) (j + 1)) (fun j hj => ?_) ?_
      · rw [hx j (by omega), hS.2.1, dr_pd_out (a := 16 + 1) (by omega), Bool.xor_false]
      · have e := dr_K_F1 hS hK
        rw [dr_sm_s] at e
        rw [nI_add, Nat.add_right_comm]
        rw [← e, ← dr_K_F2 hS hK] at hp
        exact hp
    · refine dr_bitsF (x5 ^^^ st k) (fun j => dr_pd g (X k) (j + 1) ^^ dr_pd g (X k + 1) (j + 1)) (fun j hj => by rw [b_xor, hx j (by omega), hb k z j (by omega)]) (nm_e ?_)
      refine dr_width hS hs z ⟨vp_in_nI (by omega) (by decide), vp_in_nI (by omega) (by decide), ?_⟩
      refine dr_bitsF _ (fun y => dr_pd g (X k + 1) (y + 1) ^^ dr_pd g (X k + 1) y) (fun y hy => ?_) ?_
      · rw [b_xor, hb k z y (by omega), dr_shl1 (st k) (by omega : y < 32)]
        congr 1
        rcases Nat.eq_zero_or_pos y with w | w
        · subst w
          rw [dr_pd_out (by omega)]
          rfl
        · rw [decide_eq_true (by omega), Bool.true_and, hb k z (y - 1) (by omega), show y - 1 + 1 = y by omega]
      · refine nm_r ?_ ⟨vp_in_nI (by omega) (by decide), nm_e (nm_r (nI_1 _) (ih (k + 1) (st k) (by omega) (by omega) (fun j hj => ?_)))⟩
        · rw [pk_mul, nI_add, nI_add, dr_sm_s (fun k => dr_F1 g (X k)) k, dr_sm_s (fun k => (X (k + 1) - X k) * dr_F2 g (X k)) k]
          exact congrArg nI (by show _ + dr_F1 g (X k) + _ * dr_F2 g (X k) = _; omega)
        · rw [hb k z j hj]
          exact dr_K_bf hS hK z (j + 1)
theorem dr_xcor_lp {post : Int32 → SX → Prop} {S : Nat} {X : Nat → Nat} {g : Nat → Nat → Bool} (H : dr_SW S X g sx st)
    (hp : post (nI (dr_sm (dr_F3 g) 17)) (nI S, ct, lf, rt, ro, sx, st, mk, cl)) :
    ∀ n k x5, k ≤ S + 1 → S + 1 - k < n → (k ≤ S → ∀ j, j < 32 → bt x5 j = dr_pd g (X k) (j + 1)) →
      wX_corners_44 post (nI S) ct lf rt ro sx st mk cl n (nI (dr_sm (fun k => dr_F3 g (X k)) k)) x5 (nI k) := by
  obtain ⟨hS, hK, hs, hb⟩ := H
  have s16 := dr_S16 hS
  have sh : ∀ (x : Int32) (p : Nat → Bool), p 0 = false → (∀ j, j < 32 → bt x j = p (j + 1)) → ∀ y, y < 32 → bt (x <<< ((1 : Int32) &&& 31)) y = p y := by
    intro x p p0 h y hy
    rw [dr_shl1 x hy]
    rcases Nat.eq_zero_or_pos y with w | w
    · subst w
      rw [p0]
      rfl
    · rw [decide_eq_true (by omega), Bool.true_and, h (y - 1) (by omega), show y - 1 + 1 = y by omega]
  intro n
  induction n with
  | zero => intro k x5 hk hn; omega
  | succ n ih =>
    intro k x5 hk hn hx
    have body : ∀ z0 : Int32, k ≤ S → (∀ j, j < 32 → bt z0 j = dr_pd g (X k + 1) (j + 1)) → (k + 1 ≤ S → ∀ j, j < 32 → bt z0 j = dr_pd g (X (k + 1)) (j + 1)) →
        wX_corners_73 post (wX_corners_44 post (nI S) ct lf rt ro sx st mk cl n) (nI (dr_sm (fun k => dr_F3 g (X k)) k)) x5 (nI k) z0 (nI S) ct lf rt ro sx st mk cl := by
      intro z0 hk' hz hz'
      unfold wX_corners_73
      have hx := hx hk'
      refine nm_e (nm_e (nm_e ?_))
      refine dr_bitsF _ (fun y => dr_ct g (X k) y) (fun y hy => ?_) ?_
      · have u : ∀ j, j < 32 → bt (x5 ^^^ z0) j = (fun b => dr_pd g (X k) b ^^ dr_pd g (X k + 1) b) (j + 1) := fun j hj => by rw [b_xor, hx j hj, hz j hj]
        rw [b_and, b_xor, sh (x5 ^^^ z0) (fun b => dr_pd g (X k) b ^^ dr_pd g (X k + 1) b) (by rw [dr_pd_out (by omega), dr_pd_out (by omega)]; rfl) u y (by omega), u y (by omega), b_xor, b_xor, b_xor,
          sh x5 (fun b => dr_pd g (X k) b) (dr_pd_out (by omega)) hx y (by omega), sh z0 (fun b => dr_pd g (X k + 1) b) (dr_pd_out (by omega)) hz y (by omega), hx y (by omega), hz y (by omega)]
        rfl
      · refine nm_r ?_ (nm_r (nI_1 _) (ih (k + 1) z0 (by omega) (by omega) hz'))
        rw [nI_add, dr_sm_s]
        rfl
    rw [wX_corners_44]
    dsimp only
    rw [nI_clamp (by omega : k < 2 ^ 31)]
    refine pk_lt S k (fun z => ?_) (fun z => ?_)
    · have : k = S + 1 := by omega
      subst this
      rw [dr_K_F3 hS hK]
      exact hp
    · refine pk_le S k (fun y => body 0 z (fun j hj => ?_) (fun w => by omega)) (fun y => ⟨vp_in_nI (by omega) (by decide), body (st k) z (hb k y) (fun w j hj => ?_)⟩)
      · rw [show k = S by omega, hS.2.1, dr_pd_out (by omega), b_0]
      · rw [hb k y j hj]
        exact dr_K_bf hS hK y (j + 1)
end
end
section
/-! ===== Y: combine, in, area, outline, corners ===== -/
def dr_G (g : Nat → Nat → Bool) (ys : Nat → Int32) : Prop := ∀ i j, i < 16 → j < 16 → ys (16 * j + i) = nI (g i j).toNat
theorem dr_bv0 {b : Bool} (h : b = false) : 0 = nI b.toNat := by rw [h]; rfl
theorem dr_bv1 {b : Bool} (h : b = true) : 1 = nI b.toNat := by rw [h]; rfl
theorem dr_sac (x : Int32) : x - 1 + 1 = x := Int32.sub_add_cancel x 1
section
variable {c L R B T : Nat → Nat} {yc yl yr yb yt ys : Nat → Int32}
theorem dr_cmb_lp {post : Int32 → SY → Prop} {h a b : Nat} (hh : h < 3) (ha : a < 3) (hb : b < 3) (HP : dr_RP c L R B T) (HY : dr_RY c L R B T yc yl yr yb yt)
    (hp : ∀ ys', dr_G (dr_g c L R B T h a b) ys' → post 1 (yc, yl, yr, yb, yt, ys')) :
    ∀ n e ys, e ≤ 256 → 256 - e < n → (∀ d, d < e → ys d = nI (dr_g c L R B T h a b (d % 16) (d / 16)).toNat) →
      wY_combine_30 post (nI h) (nI a) (nI b) n (nI e) yc yl yr yb yt ys := by
  intro n
  induction n with
  | zero => intro e ys he hn; omega
  | succ n ih =>
    intro e ys he hn hy
    rw [wY_combine_30]
    dsimp only
    have n16 : ¬ (16 : Int32) = 0 := by decide
    refine pk_le 256 e (fun z => ?_) (fun z => ⟨n16, n16, ?_⟩)
    · refine hp ys (fun i j hi hj => ?_)
      rw [hy (16 * j + i) (by omega), show (16 * j + i) % 16 = i by omega, show (16 * j + i) / 16 = j by omega]
    · have e1 : nI e - nI e / 16 * 16 = nI (e % 16) := pk_rem (d := 16) (by omega) (by omega) (by omega)
      have e2 : nI e / 16 = nI (e / 16) := pk_div (d := 16) (by omega) (by omega) (by omega)
      rw [e1, e2]
      refine dr_has ha (by omega) (by omega) HP HY ⟨n16, n16, dr_has hb (by omega) (by omega) HP HY ?_⟩
      have step : ∀ v : Int32, v = nI (dr_g c L R B T h a b (e % 16) (e / 16)).toNat →
          (vp_in (nI e) 256 ∧ ∀ s : Nat → Int32, s = upd ys (nI e).toNatClampNeg (vp_nar .boolean v) → ∀ x : Int32, x = nI e + 1 → wY_combine_30 post (nI h) (nI a) (nI b) n x yc yl yr yb yt s) := by
        intro v hv
        refine ⟨vp_in_nI z (by decide), ?_⟩
        rw [nI_clamp (by omega : e < 2 ^ 31), hv, dr_bool]
        refine nm_e (nm_r (nI_1 _) (ih (e + 1) _ (by omega) (by omega) (fun d hd => ?_)))
        by_cases ed : d = e
        · subst ed
          rw [pk_us]
        · rw [pk_un ed]
          exact hy d (by omega)
      unfold dr_g at step
      refine pk_eq h 0 (fun eh => ?_) (fun eh => ?_)
      · refine dr_br (fun p => step 0 (dr_bv0 ?_)) (fun p => dr_br (fun q => step 0 (dr_bv0 ?_)) (fun q => step 1 (dr_bv1 ?_)))
        · simp [dr_op, eh, p]
        · simp [dr_op, eh, p, q]
        · simp [dr_op, eh, p, q]
      · refine pk_eq h 1 (fun eg => ?_) (fun eg => ?_)
        · refine dr_br (fun p => dr_br (fun q => step 0 (dr_bv0 ?_)) (fun q => step 1 (dr_bv1 ?_))) (fun p => step 1 (dr_bv1 ?_))
          · simp [dr_op, eg, p, q]
          · simp [dr_op, eg, p, q]
          · simp [dr_op, eg, p]
        · refine dr_br (fun p => step 0 (dr_bv0 ?_)) (fun p => dr_br (fun q => step 1 (dr_bv1 ?_)) (fun q => step 0 (dr_bv0 ?_)))
          · simp [dr_op, eh, eg, p]
          · simp [dr_op, eh, eg, p, q]
          · simp [dr_op, eh, eg, p, q]
theorem dr_cmb {post : Int32 → SY → Prop} {h a b : Nat} (hh : h < 3) (ha : a < 3) (hb : b < 3) (HP : dr_RP c L R B T) (HY : dr_RY c L R B T yc yl yr yb yt)
    (hp : ∀ ys', dr_G (dr_g c L R B T h a b) ys' → post 1 (yc, yl, yr, yb, yt, ys')) : wpY_combine post (yc, yl, yr, yb, yt, ys) (nI h) (nI a) (nI b) := by
  unfold wpY_combine
  dsimp only
  refine br_f (dr_lay_n hh).1 (br_f (dr_lay_n hh).2 (dr_yl1 ha (br_f (by decide) (dr_yl1 hb (br_f (by decide) ⟨257, ?_⟩)))))
  exact dr_cmb_lp hh ha hb HP HY hp 257 0 ys (by omega) (by omega) (fun d hd => by omega)
def dr_bad (x : Int32) : Prop := x < 0 ∨ (¬ x < 0 ∧ 2 < x)
theorem dr_cmb0 {post : Int32 → SY → Prop} {h a b : Int32} (hB : dr_bad h ∨ dr_bad a ∨ dr_bad b) (hp : post 0 (yc, yl, yr, yb, yt, ys)) : wpY_combine post (yc, yl, yr, yb, yt, ys) h a b := by
  unfold wpY_combine
  dsimp only
  by_cases h1 : h < 0
  · exact br_t h1 hp
  · by_cases h2 : 2 < h
    · exact br_f h1 (br_t h2 hp)
    · refine br_f h1 (br_f h2 ?_)
      rcases dr_lay a with ba | ⟨l, hl, rfl⟩
      · exact dr_yl0 ba (br_t rfl hp)
      · refine dr_yl1 hl (br_f (by decide) ?_)
        rcases hB with z | z | z
        · rcases z with z | z
          · exact absurd z h1
          · exact absurd z.2 h2
        · rcases z with z | z
          · exact absurd z (dr_lay_n hl).1
          · exact absurd z.2 (dr_lay_n hl).2
        · exact dr_yl0 z (br_t rfl hp)
theorem dr_yin {post : Int32 → Prop} {g : Nat → Nat → Bool} (HG : dr_G g ys) {x y : Int32} {a b : Nat} (hx : x + 1 = nI a) (hy : y + 1 = nI b) (ha : a < 1000) (hb : b < 1000)
    (hp : post (nI (dr_pd g a b).toNat)) : wpY_in post (yc, yl, yr, yb, yt, ys) x y := by
  unfold wpY_in
  dsimp only
  have o : (a = 0 ∨ 17 ≤ a ∨ b = 0 ∨ 17 ≤ b) → post 0 := fun z => by
    rw [dr_pd_out z] at hp
    exact hp
  have ng : ∀ {z : Int32} {d : Nat}, z + 1 = nI d → d = 0 → z < 0 := by
    intro z d e e0
    have : z = -1 := by
      rw [e0] at e
      have e2 : z + 1 = (-1) + 1 := e
      exact (Int32.add_left_inj 1).mp e2
    rw [this]
    decide
  have ps : ∀ {z : Int32} {d : Nat}, z + 1 = nI (d + 1) → z = nI d := by
    intro z d e
    rw [← nI_1] at e
    exact (Int32.add_left_inj 1).mp e
  rcases Nat.eq_zero_or_pos a with a0 | a0
  · exact br_t (ng hx a0) (o (Or.inl a0))
  · obtain ⟨i, rfl⟩ : ∃ i, a = i + 1 := ⟨a - 1, by omega⟩
    have ex := ps hx
    subst ex
    refine br_f (nI_pos (by omega)) (pk_lt 15 i (fun z => o (by omega)) (fun z => ?_))
    rcases Nat.eq_zero_or_pos b with b0 | b0
    · exact br_t (ng hy b0) (o (by omega))
    · obtain ⟨j, rfl⟩ : ∃ j, b = j + 1 := ⟨b - 1, by omega⟩
      have ey := ps hy
      subst ey
      refine br_f (nI_pos (by omega)) (pk_lt 15 j (fun z => o (by omega)) (fun w => ?_))
      rw [dr_16, nI_clamp (by omega : 16 * j + i < 2 ^ 31), HG i j (by omega) (by omega)]
      rw [dr_pd_in (by omega) (by omega)] at hp
      refine ⟨vp_in_nI (by omega) (by decide), dr_br (fun e => ?_) (fun e => ?_)⟩
      · rw [e] at hp
        exact hp
      · rw [e] at hp
        exact hp
theorem dr_yarea {post : Int32 → SY → Prop} {g : Nat → Nat → Bool} (HG : dr_G g ys) (hp : post (nI (dr_sm (dr_F0 g) 16)) (yc, yl, yr, yb, yt, ys)) : ∃ n, wY_area_19 post yc yl yr yb yt ys n 0 0 := by
  refine dr_lw (fun n a i => wY_area_19 post yc yl yr yb yt ys n a i) (fun d => (g (d % 16) (d / 16)).toNat) 0 256 (fun n => ?_) (fun n d hd K => ?_)
  · rw [wY_area_19, Nat.zero_add, ← dr_area]
    exact br_t (nI_le (a := 256) (b := 256) (by omega) (by decide)) hp
  · rw [wY_area_19]
    dsimp only at K ⊢
    have e := HG (d % 16) (d / 16) (by omega) (by omega)
    rw [show 16 * (d / 16) + d % 16 = d by omega] at e
    rw [nI_clamp (by omega : d < 2 ^ 31), e]
    refine br_f (nI_ge (a := d) (b := 256) (by omega) (by decide)) ⟨vp_in_nI hd (by decide), dr_br (fun z => nm_r (nI_1 _) ?_) (fun z => nm_r (nI_1 _) (nm_r (nI_1 _) ?_))⟩
    · rw [z] at K
      exact K
    · rw [z] at K
      exact K
theorem dr_o95 {post : Int32 → SY → Prop} {J19 J29 : Int32 → Int32 → Prop} {g : Nat → Nat → Bool} (HG : dr_G g ys) {i j a : Nat} (hi : i < 16) (hj : j < 16)
    (K : J29 (nI (a + (!dr_pd g (i + 1) (j + 2)).toNat)) (nI (i + 1))) : wY_outline_95 post J19 J29 (nI a) (nI j) (nI i) yc yl yr yb yt ys := by
  unfold wY_outline_95
  refine dr_yin HG (nI_1 i) (b := j + 2) (by rw [nI_1, nI_1]) (by omega) (by omega) (dr_br (fun e => nm_r (nI_1 _) (nm_r (nI_1 _) ?_)) (fun e => nm_r (nI_1 _) ?_))
  · rw [e] at K
    exact K
  · rw [e] at K
    exact K
theorem dr_o79 {post : Int32 → SY → Prop} {J19 J29 : Int32 → Int32 → Prop} {g : Nat → Nat → Bool} (HG : dr_G g ys) {i j a : Nat} (hi : i < 16) (hj : j < 16)
    (K : J29 (nI (a + (!dr_pd g (i + 1) j).toNat + (!dr_pd g (i + 1) (j + 2)).toNat)) (nI (i + 1))) : wY_outline_79 post J19 J29 (nI a) (nI j) (nI i) yc yl yr yb yt ys := by
  unfold wY_outline_79
  refine dr_yin HG (nI_1 i) (dr_sac (nI j)) (by omega) (by omega) (dr_br (fun e => nm_r (nI_1 _) (dr_o95 HG hi hj ?_)) (fun e => dr_o95 HG hi hj ?_))
  · rw [e] at K
    exact K
  · rw [e] at K
    exact K
theorem dr_o63 {post : Int32 → SY → Prop} {J19 J29 : Int32 → Int32 → Prop} {g : Nat → Nat → Bool} (HG : dr_G g ys) {i j a : Nat} (hi : i < 16) (hj : j < 16)
    (K : J29 (nI (a + (!dr_pd g (i + 2) (j + 1)).toNat + (!dr_pd g (i + 1) j).toNat + (!dr_pd g (i + 1) (j + 2)).toNat)) (nI (i + 1))) : wY_outline_63 post J19 J29 (nI a) (nI j) (nI i) yc yl yr yb yt ys := by
  unfold wY_outline_63
  refine dr_yin HG (a := i + 2) (by rw [nI_1, nI_1]) (nI_1 j) (by omega) (by omega) (dr_br (fun e => nm_r (nI_1 _) (dr_o79 HG hi hj ?_)) (fun e => dr_o79 HG hi hj ?_))
  · rw [e] at K
    exact K
  · rw [e] at K
    exact K
theorem dr_yout {post : Int32 → SY → Prop} {g : Nat → Nat → Bool} (HG : dr_G g ys) (hp : post (nI (dr_sm (dr_F1 g) 17 + dr_sm (dr_F2 g) 16)) (yc, yl, yr, yb, yt, ys)) :
    ∃ n, wY_outline_19 post yc yl yr yb yt ys n 0 0 := by
  refine dr_lw (fun n a i => wY_outline_19 post yc yl yr yb yt ys n a i) (fun j => dr_sm (fun i => dr_oY g i j) 16) 0 16 (fun n => ?_) (fun n j hj K => ?_)
  · rw [wY_outline_19, Nat.zero_add, ← dr_outline]
    exact br_t (nI_le (a := 16) (b := 16) (by omega) (by decide)) hp
  · rw [wY_outline_19]
    dsimp only at K ⊢
    refine br_f (nI_ge (a := j) (b := 16) hj (by decide)) ?_
    refine dr_lw (fun m a i => wY_outline_29 post (wY_outline_19 post yc yl yr yb yt ys n) (nI j) yc yl yr yb yt ys m a i) (fun i => dr_oY g i j) _ 16 (fun m => ?_) (fun m i hi M => ?_)
    · rw [wY_outline_29, Nat.add_assoc]
      exact br_t (nI_le (a := 16) (b := 16) (by omega) (by decide)) (nm_r (nI_1 _) K)
    · rw [wY_outline_29]
      dsimp only at M ⊢
      unfold dr_oY at M
      refine br_f (nI_ge (a := i) (b := 16) hi (by decide)) (dr_yin HG (nI_1 i) (nI_1 j) (by omega) (by omega) (dr_br (fun e => nm_r (nI_1 _) ?_) (fun e => ?_)))
      · rw [e, if_neg (by decide)] at M
        exact M
      · rw [if_pos e] at M
        refine dr_yin HG (dr_sac (nI i)) (nI_1 j) (by omega) (by omega) (dr_br (fun e1 => nm_r (nI_1 _) (dr_o63 HG hi hj ?_)) (fun e1 => dr_o63 HG hi hj ?_))
        · rw [e1] at M
          simp only [← Nat.add_assoc] at M ⊢
          exact M
        · rw [e1] at M
          simp only [← Nat.add_assoc] at M ⊢
          exact M
theorem dr_brx {P : Int32 → Prop} {a b : Bool} (h : P (nI (a ^^ b).toNat)) : (nI a.toNat = nI b.toNat → P 0) ∧ (¬ nI a.toNat = nI b.toNat → P 1) := by
  refine dr_bre (fun e => ?_) (fun e => ?_)
  · rw [e, Bool.xor_self] at h
    exact h
  · have : (a ^^ b) = true := by
      revert e
      cases a <;> cases b <;> simp
    rw [this] at h
    exact h
theorem dr_c154 {post : Int32 → SY → Prop} {J19 J29 : Int32 → Int32 → Prop} {i j a : Nat} {p q r s : Bool}
    (K : J29 (nI (a + ((p ^^ q) && (r ^^ s)).toNat)) (nI (i + 1))) : wY_corners_154 post J19 J29 (nI a) (nI j) (nI i) (nI p.toNat) (nI q.toNat) (nI r.toNat) (nI s.toNat) yc yl yr yb yt ys := by
  unfold wY_corners_154
  refine dr_bre (fun e => nm_r (nI_1 _) ?_) (fun e => dr_bre (fun e1 => nm_r (nI_1 _) ?_) (fun e1 => nm_r (nI_1 _) (nm_r (nI_1 _) ?_)))
  · rw [e, Bool.xor_self, Bool.false_and] at K
    exact K
  · rw [e1, Bool.xor_self, Bool.and_false] at K
    exact K
  · have : ((p ^^ q) && (r ^^ s)) = true := by
      revert e e1
      cases p <;> cases q <;> cases r <;> cases s <;> simp
    rw [this] at K
    exact K
theorem dr_ycor {post : Int32 → SY → Prop} {g : Nat → Nat → Bool} (HG : dr_G g ys) (hp : post (nI (dr_sm (dr_F3 g) 17)) (yc, yl, yr, yb, yt, ys)) :
    ∃ n, wY_corners_19 post yc yl yr yb yt ys n 0 0 := by
  refine dr_lw (fun n a i => wY_corners_19 post yc yl yr yb yt ys n a i) (fun y => dr_sm (fun x => (dr_ct g x y).toNat) 17) 0 17 (fun n => ?_) (fun n y hy K => ?_)
  · rw [wY_corners_19, Nat.zero_add, ← dr_corners]
    exact br_t (nI_lt (a := 16) (b := 17) (by omega) (by decide)) hp
  · rw [wY_corners_19]
    dsimp only at K ⊢
    refine br_f (nI_nlt (a := 16) (b := y) (by omega) (by decide)) ?_
    refine dr_lw (fun m a i => wY_corners_29 post (wY_corners_19 post yc yl yr yb yt ys n) (nI y) yc yl yr yb yt ys m a i) (fun x => (dr_ct g x y).toNat) _ 17 (fun m => ?_) (fun m x hx M => ?_)
    · rw [wY_corners_29, Nat.add_assoc]
      exact br_t (nI_lt (a := 16) (b := 17) (by omega) (by decide)) (nm_r (nI_1 _) K)
    · rw [wY_corners_29]
      dsimp only at M ⊢
      refine br_f (nI_nlt (a := 16) (b := x) (by omega) (by decide)) (dr_yin HG (dr_sac (nI x)) (nI_1 y) (by omega) (by omega) (dr_yin HG (nI_1 x) (nI_1 y) (by omega) (by omega) ?_))
      refine dr_brx (P := fun z => wY_corners_62 post _ _ _ _ _ z yc yl yr yb yt ys) ?_
      unfold wY_corners_62
      refine dr_yin HG (dr_sac (nI x)) (dr_sac (nI y)) (by omega) (by omega) (dr_yin HG (nI_1 x) (dr_sac (nI y)) (by omega) (by omega) ?_)
      refine dr_brx (P := fun z => wY_corners_94 post _ _ _ _ _ _ z yc yl yr yb yt ys) ?_
      unfold wY_corners_94
      refine dr_yin HG (dr_sac (nI x)) (nI_1 y) (by omega) (by omega) (dr_yin HG (dr_sac (nI x)) (dr_sac (nI y)) (by omega) (by omega) ?_)
      refine dr_brx (P := fun z => wY_corners_126 post _ _ _ _ _ _ _ z yc yl yr yb yt ys) ?_
      unfold wY_corners_126
      refine dr_yin HG (nI_1 x) (nI_1 y) (by omega) (by omega) (dr_yin HG (nI_1 x) (dr_sac (nI y)) (by omega) (by omega) ?_)
      refine dr_brx (P := fun z => wY_corners_154 post _ _ _ _ _ _ _ _ z yc yl yr yb yt ys) ?_
      refine dr_c154 ?_
      have e : dr_ct g x y = (((dr_pd g x (y + 1) ^^ dr_pd g (x + 1) (y + 1)) ^^ (dr_pd g x y ^^ dr_pd g (x + 1) y)) && ((dr_pd g x (y + 1) ^^ dr_pd g x y) ^^ (dr_pd g (x + 1) (y + 1) ^^ dr_pd g (x + 1) y))) := by
        unfold dr_ct
        rw [Bool.xor_assoc (dr_pd g x (y + 1) ^^ dr_pd g x y)]
      rw [e, ← Nat.add_assoc] at M
      exact M
end
end
section
/-! ===== X: runs ===== -/
theorem dr_run_c {q q' : Nat → Bool} {N a b : Nat} (h : ∀ t, t < N → q t = q' t) (r : dr_Run q N a b) : dr_Run q' N a b := by
  obtain ⟨h1, h2, h3, h4, h5⟩ := r
  refine ⟨h1, h2, fun t t1 t2 => ?_, fun z => ?_, fun z => ?_⟩
  · rw [← h t (by omega)]
    exact h3 t t1 t2
  · rw [← h (a - 1) (by omega)]
    exact h4 z
  · rw [← h b z]
    exact h5 z
theorem dr_sh_c {q q' : Nat → Bool} {N : Nat} {X : Nat → Nat} {w : Nat} {inner : Bool} {s : Nat} (h : ∀ t, t < N → q t = q' t) : dr_Sh q N X w inner s ↔ dr_Sh q' N X w inner s := by
  constructor
  · intro ⟨a, b, r, z⟩
    exact ⟨a, b, dr_run_c h r, z⟩
  · intro ⟨a, b, r, z⟩
    exact ⟨a, b, dr_run_c (fun t ht => (h t ht).symm) r, z⟩
theorem dr_sh_N {q : Nat → Bool} {N : Nat} {X : Nat → Nat} {w : Nat} {inner : Bool} {s : Nat} (h : dr_Sh q N X w inner s) : s < N := by
  obtain ⟨a, b, r, h2, h3, _⟩ := h
  have := r.2.1
  omega
/-- the rows so far, and those of the run [j, e) if it is short -/
def dr_sr (x4 : Int32) (j e w : Nat) (inner : Bool) : Int32 :=
  if j < e ∧ e - j < w ∧ (inner = true → 0 < j ∧ e < 16) then x4 ||| (((1 : Int32) <<< (nI e &&& 31)) - ((1 : Int32) <<< (nI j &&& 31))) else x4
theorem dr_sr_bits {q : Nat → Bool} {x4 : Int32} {j e w : Nat} {inner : Bool} (hj : j < 16) (hje : j ≤ e) (he : e ≤ 16) (hb : 0 < j → q (j - 1) = false)
    (hr : ∀ t, j ≤ t → t < e → q t = true) (hq : e < 16 → q e = false) (hx : ∀ t, t < 32 → bt x4 t = (decide (t < j) && dr_b (dr_Sh q 16 id w inner t))) :
    ∀ t, t < 32 → bt (dr_sr x4 j e w inner) t = (decide (t < e + 1) && dr_b (dr_Sh q 16 id w inner t)) := by
  intro t ht
  have C : j < e → ∀ t, j ≤ t → t < e → (dr_Sh q 16 id w inner t ↔ (e - j < w ∧ (inner = true → 0 < j ∧ e < 16))) := fun z t t1 t2 =>
    dr_sh_run (X := id) (⟨z, he, hr, hb, hq⟩ : dr_Run q 16 j e) t1 t2
  have N : t = e → dr_b (dr_Sh q 16 id w inner t) = false := fun z => dr_b_f.mpr (fun s => by
    have s1 := dr_sh_N s
    have s2 := dr_sh_q s
    rw [z, hq (by omega)] at s2
    exact Bool.noConfusion s2)
  unfold dr_sr
  by_cases cd : j < e ∧ e - j < w ∧ (inner = true → 0 < j ∧ e < 16)
  · rw [if_pos cd, b_or, hx t ht, dr_mask e (by omega) j cd.1 t ht]
    rcases Nat.lt_or_ge t j with a | a
    · rw [decide_eq_true a, decide_eq_false (by omega : ¬ (j ≤ t ∧ t < e)), decide_eq_true (by omega : t < e + 1), Bool.or_false]
    · rw [decide_eq_false (by omega : ¬ t < j), Bool.false_and, Bool.false_or]
      rcases Nat.lt_trichotomy t e with b | b | b
      · rw [decide_eq_true (by omega : j ≤ t ∧ t < e), decide_eq_true (by omega : t < e + 1), dr_b_t.mpr ((C cd.1 t a b).mpr cd.2)]
        rfl
      · rw [N b, Bool.and_false, decide_eq_false (by omega)]
      · rw [decide_eq_false (by omega : ¬ (j ≤ t ∧ t < e)), decide_eq_false (by omega : ¬ t < e + 1), Bool.false_and]
  · rw [if_neg cd, hx t ht]
    rcases Nat.lt_or_ge t j with a | a
    · rw [decide_eq_true a, decide_eq_true (by omega : t < e + 1)]
    · rw [decide_eq_false (by omega : ¬ t < j), Bool.false_and]
      rcases Nat.lt_trichotomy t e with b | b | b
      · rw [dr_b_f.mpr (fun s => cd ⟨by omega, (C (by omega) t a b).mp s⟩), Bool.and_false]
      · rw [N b, Bool.and_false]
      · rw [decide_eq_false (by omega : ¬ t < e + 1), Bool.false_and]
section
variable {f : Int32} {ct lf rt ro sx st mk cl : Nat → Int32}
theorem dr_sr56 {post : Int32 → Prop} {J6 : Int32 → Int32 → Prop} {x1 x4 : Int32} {j e w : Nat} {inner o : Bool} (hje : j ≤ e) (he : e ≤ 16) (hw : w < 1000) (ho : o = true ↔ (j = 0 ∨ e = 16))
    (K : J6 (dr_sr x4 j e w inner) (nI (e + 1))) : wX_shortRuns_56 post J6 x1 (nI w) (nI inner.toNat) x4 (nI j) (nI e) (nI o.toNat) f ct lf rt ro sx st mk cl := by
  have no : ¬ (j < e ∧ e - j < w ∧ (inner = true → 0 < j ∧ e < 16)) → J6 x4 (nI (e + 1)) := fun z => by
    rw [dr_sr, if_neg z] at K
    exact K
  have ye : (j < e ∧ e - j < w ∧ (inner = true → 0 < j ∧ e < 16)) → wX_shortRuns_83 post J6 x1 (nI w) (nI inner.toNat) x4 (nI j) (nI e) f ct lf rt ro sx st mk cl := fun z => by
    rw [dr_sr, if_pos z] at K
    unfold wX_shortRuns_83
    exact nm_e (nm_r (nI_1 _) K)
  unfold wX_shortRuns_56
  rw [pk_sub hje]
  refine pk_le e j (fun z => nm_r (nI_1 _) (no (fun y => by omega))) (fun z => pk_le w (e - j) (fun y => nm_r (nI_1 _) (no (fun x => by omega))) (fun y => dr_br (fun i0 => ye ⟨z, y, fun i1 => ?_⟩) (fun i1 => dr_br (fun o0 => ye ⟨z, y, fun _ => ?_⟩) (fun o1 => nm_r (nI_1 _) (no (fun x => ?_))))))
  · rw [i0] at i1
    exact Bool.noConfusion i1
  · have : ¬ (j = 0 ∨ e = 16) := fun h => by
      rw [ho.mpr h] at o0
      exact Bool.noConfusion o0
    omega
  · have h1 := ho.mp o1
    have h2 := x.2.2 i1
    omega
theorem dr_sr39 {post : Int32 → Prop} {J6 : Int32 → Int32 → Prop} {x1 x4 : Int32} {j e w : Nat} {inner : Bool} (hje : j ≤ e) (he : e ≤ 16) (hw : w < 1000)
    (K : J6 (dr_sr x4 j e w inner) (nI (e + 1))) : wX_shortRuns_39 post J6 x1 (nI w) (nI inner.toNat) x4 (nI j) (nI e) f ct lf rt ro sx st mk cl := by
  have t1 : (j = 0 ∨ e = 16) → wX_shortRuns_51 post J6 x1 (nI w) (nI inner.toNat) x4 (nI j) (nI e) f ct lf rt ro sx st mk cl := fun z => by
    unfold wX_shortRuns_51
    exact dr_sr56 (o := true) hje he hw ⟨fun _ => z, fun _ => rfl⟩ K
  unfold wX_shortRuns_39
  refine pk_eq j 0 (fun z => t1 (Or.inl z)) (fun z => pk_eq e 16 (fun y => t1 (Or.inr y)) (fun y => ?_))
  exact dr_sr56 (o := false) hje he hw ⟨fun x => Bool.noConfusion x, fun x => by omega⟩ K
theorem dr_sr17 {post : Int32 → Prop} {J6 : Int32 → Int32 → Prop} {x1 x4 : Int32} {j w : Nat} {inner : Bool} (hw : w < 1000)
    (K : ∀ e, j ≤ e → e ≤ 16 → (∀ t, j ≤ t → t < e → bt x1 t = true) → (e < 16 → bt x1 e = false) → J6 (dr_sr x4 j e w inner) (nI (e + 1))) :
    ∀ n e, j ≤ e → e ≤ 16 → 16 - e < n → (∀ t, j ≤ t → t < e → bt x1 t = true) →
      wX_shortRuns_17 post J6 x1 (nI w) (nI inner.toNat) x4 (nI j) f ct lf rt ro sx st mk cl n (nI e) := by
  intro n
  induction n with
  | zero => intro e h1 h2 h3; omega
  | succ n ih =>
    intro e h1 h2 h3 hr
    rw [wX_shortRuns_17]
    dsimp only
    refine pk_le 16 e (fun z => dr_sr39 h1 h2 hw (K e h1 h2 hr (fun y => by omega))) (fun z => dr_brb x1 (by omega) (fun y => dr_sr39 h1 h2 hw (K e h1 h2 hr (fun _ => y))) (fun y => nm_r (nI_1 _) (ih (e + 1) (by omega) (by omega) (by omega) (fun t t1 t2 => ?_))))
    rcases Nat.lt_or_ge t e with a | a
    · exact hr t t1 a
    · rw [show t = e by omega]
      exact y
theorem dr_sr6 {post : Int32 → Prop} {x1 : Int32} {w : Nat} {inner : Bool} (hw : w < 1000) (hp : ∀ r, (∀ t, t < 32 → bt r t = dr_b (dr_Sh (bt x1) 16 id w inner t)) → post r) :
    ∀ n j x4, j ≤ 17 → 17 - j < n → (0 < j → j ≤ 16 → bt x1 (j - 1) = false) → (∀ t, t < 32 → bt x4 t = (decide (t < j) && dr_b (dr_Sh (bt x1) 16 id w inner t))) →
      wX_shortRuns_6 post x1 (nI w) (nI inner.toNat) f ct lf rt ro sx st mk cl n x4 (nI j) := by
  intro n
  induction n with
  | zero => intro j x4 h1 h2; omega
  | succ n ih =>
    intro j x4 h1 h2 hb hx
    rw [wX_shortRuns_6]
    dsimp only
    refine pk_le 16 j (fun z => hp x4 (fun t ht => ?_)) (fun z => ⟨17, ?_⟩)
    · rw [hx t ht]
      rcases Nat.lt_or_ge t j with a | a
      · rw [decide_eq_true a, Bool.true_and]
      · rw [decide_eq_false (by omega), Bool.false_and, dr_b_f.mpr (fun s => by have := dr_sh_N s; omega)]
    · refine dr_sr17 hw (fun e e1 e2 e3 e4 => ih (e + 1) _ (by omega) (by omega) (fun _ y => ?_) (dr_sr_bits (by omega) e1 e2 (fun y => hb y (by omega)) e3 e4 hx)) 17 j (by omega) (by omega) (by omega) (fun t t1 t2 => by omega)
      rw [show e + 1 - 1 = e by omega]
      exact e4 (by omega)
theorem dr_short {post : Int32 → Prop} {x1 : Int32} {w : Nat} {inner : Bool} (hw : w < 1000) (hp : ∀ r, (∀ t, t < 32 → bt r t = dr_b (dr_Sh (bt x1) 16 id w inner t)) → post r) :
    wpX_shortRuns post (f, ct, lf, rt, ro, sx, st, mk, cl) x1 (nI w) (nI inner.toNat) :=
  ⟨18, dr_sr6 hw hp 18 0 0 (by omega) (by omega) (fun z => by omega) (fun t _ => by rw [b_0, decide_eq_false (by omega), Bool.false_and])⟩
end
end
section
/-! ===== X: marks by rows ===== -/
section
variable {f : Int32} {ct lf rt ro sx st mk cl : Nat → Int32}
theorem dr_mk107 {post : Int32 → SX → Prop} {S j k e : Nat} (hj : j < 16) (he : e ≤ 16)
    (hp : ∀ mk', (∀ s t, t < 32 → bt (mk' s) t = (bt (mk s) t || (decide (t = j) && decide (k ≤ s ∧ s < e)))) → post (nI e) (nI S, ct, lf, rt, ro, sx, st, mk', cl)) :
    ∀ n s0 mk1, k ≤ s0 → s0 ≤ e → e - s0 < n → (∀ s t, t < 32 → bt (mk1 s) t = (bt (mk s) t || (decide (t = j) && decide (k ≤ s ∧ s < s0)))) →
      wX_markRun_107 post (nI j) (nI e) (nI S) n (nI s0) ct lf rt ro sx st mk1 cl := by
  intro n
  induction n with
  | zero => intro s0 mk1 h1 h2 h3; omega
  | succ n ih =>
    intro s0 mk1 h1 h2 h3 hm
    rw [wX_markRun_107]
    dsimp only
    rw [nI_clamp (by omega : s0 < 2 ^ 31)]
    refine pk_le e s0 (fun z => ?_) (fun z => ⟨vp_in_nI (by omega) (by decide), vp_in_nI (by omega) (by decide), nm_e (nm_r (nI_1 _) (ih (s0 + 1) _ (by omega) (by omega) (by omega) (fun s t ht => ?_)))⟩)
    · have : s0 = e := by omega
      subst this
      exact hp mk1 hm
    · by_cases es : s = s0
      · subst es
        rw [pk_us, b_or, hm s t ht, dr_one j (by omega) t ht, decide_eq_false (by omega : ¬ (k ≤ s ∧ s < s)), decide_eq_true (by omega : k ≤ s ∧ s < s + 1), Bool.and_false, Bool.or_false, Bool.and_true]
      · rw [pk_un es, hm s t ht]
        congr 2
        apply decide_eq_decide.mpr
        omega
theorem dr_mk74 {post : Int32 → SX → Prop} {S j k e w : Nat} {X : Nat → Nat} {inner o : Bool} (hS : dr_St S X) (hs : ∀ k, k ≤ S → sx k = nI (X k)) (hj : j < 16) (hw : w < 1000)
    (hke : k < e) (he : e ≤ S) (ho : o = true ↔ (k = 0 ∨ e = S))
    (hp : ∀ mk', (∀ s t, t < 32 → bt (mk' s) t = (bt (mk s) t || (decide (t = j) && (decide (k ≤ s ∧ s < e) && decide (X e - X k < w ∧ (inner = true → 0 < k ∧ e < S)))))) → post (nI e) (nI S, ct, lf, rt, ro, sx, st, mk', cl)) :
    wX_markRun_74 post (nI j) (nI k) (nI w) (nI inner.toNat) (nI e) (nI o.toNat) (nI S) ct lf rt ro sx st mk cl := by
  have s16 := dr_S16 hS
  have m := dr_mono hS (Nat.le_of_lt hke) he
  have x16 := dr_X16 hS he
  have no : ¬ (X e - X k < w ∧ (inner = true → 0 < k ∧ e < S)) → post (nI e) (nI S, ct, lf, rt, ro, sx, st, mk, cl) := fun z => hp mk (fun s t _ => by
    rw [decide_eq_false z, Bool.and_false, Bool.and_false, Bool.or_false])
  have ye : (X e - X k < w ∧ (inner = true → 0 < k ∧ e < S)) → ∃ n, wX_markRun_107 post (nI j) (nI e) (nI S) n (nI k) ct lf rt ro sx st mk cl := fun z =>
    ⟨17, dr_mk107 hj (by omega) (fun mk' h => hp mk' (fun s t ht => by rw [h s t ht, decide_eq_true z, Bool.and_true])) 17 k mk (Nat.le_refl k) (by omega) (by omega) (fun s t _ => by
      rw [decide_eq_false (by omega : ¬ (k ≤ s ∧ s < k)), Bool.and_false, Bool.or_false])⟩
  unfold wX_markRun_74
  rw [nI_clamp (by omega : e < 2 ^ 31), nI_clamp (by omega : k < 2 ^ 31), hs e he, hs k (by omega), pk_sub (by omega)]
  refine ⟨vp_in_nI (by omega) (by decide), vp_in_nI (by omega) (by decide), pk_le w (X e - X k) (fun z => no (fun y => by omega)) (fun z => dr_br (fun i0 => ye ⟨z, fun i1 => ?_⟩) (fun i1 => dr_br (fun o0 => ye ⟨z, fun _ => ?_⟩) (fun o1 => no (fun y => ?_))))⟩
  · rw [i0] at i1
    exact Bool.noConfusion i1
  · have : ¬ (k = 0 ∨ e = S) := fun h => by
      rw [ho.mpr h] at o0
      exact Bool.noConfusion o0
    omega
  · have h1 := ho.mp o1
    have h2 := y.2 i1
    omega
/-- the row j of the strips, wanted or not -/
def dr_q (st : Nat → Int32) (inner : Bool) (j s : Nat) : Bool := bt (st s) j ^^ inner
theorem dr_mk46 {post : Int32 → SX → Prop} {S j k e w : Nat} {X : Nat → Nat} {inner : Bool} (hS : dr_St S X) (hs : ∀ k, k ≤ S → sx k = nI (X k)) (hj : j < 16) (hw : w < 1000)
    (hk : k < S) (hke : k ≤ e) (he : e ≤ S) (hb : 0 < k → dr_q st inner j (k - 1) = false ∨ dr_q st inner j k = false)
    (hr : ∀ t, k ≤ t → t < e → dr_q st inner j t = true) (hq : e < S → dr_q st inner j e = false)
    (hp : ∀ k' mk', k < k' → k' ≤ S → (k' < S → dr_q st inner j (k' - 1) = false ∨ dr_q st inner j k' = false) →
      (∀ s, s < S → ∀ t, t < 32 → bt (mk' s) t = (bt (mk s) t || (decide (t = j) && (decide (k ≤ s ∧ s < k') && dr_b (dr_Sh (dr_q st inner j) S X w inner s))))) → post (nI k') (nI S, ct, lf, rt, ro, sx, st, mk', cl)) :
    wX_markRun_46 post (nI j) (nI k) (nI w) (nI inner.toNat) (nI e) (nI S) ct lf rt ro sx st mk cl := by
  have s16 := dr_S16 hS
  have go : k < e → ∀ mk', (∀ s t, t < 32 → bt (mk' s) t = (bt (mk s) t || (decide (t = j) && (decide (k ≤ s ∧ s < e) && decide (X e - X k < w ∧ (inner = true → 0 < k ∧ e < S)))))) → post (nI e) (nI S, ct, lf, rt, ro, sx, st, mk', cl) := by
    intro z mk' h
    have rn : dr_Run (dr_q st inner j) S k e := ⟨z, he, hr, fun y => by
      rcases hb y with x | x
      · exact x
      · rw [hr k (Nat.le_refl k) z] at x
        exact Bool.noConfusion x, hq⟩
    refine hp e mk' z he (fun y => Or.inr (hq y)) (fun s hs' t ht => ?_)
    rw [h s t ht]
    by_cases y : k ≤ s ∧ s < e
    · have : decide (X e - X k < w ∧ (inner = true → 0 < k ∧ e < S)) = dr_b (dr_Sh (dr_q st inner j) S X w inner s) :=
        dr_b_eq (by rw [decide_eq_true_eq]; exact (dr_sh_run rn y.1 y.2).symm)
      rw [this]
    · rw [decide_eq_false y, Bool.false_and, Bool.false_and]
  unfold wX_markRun_46
  refine pk_eq e k (fun z => ?_) (fun z => ?_)
  · subst z
    rw [nI_1]
    have qe := hq hk
    refine hp (e + 1) mk (by omega) (by omega) (fun _ => Or.inl (by rw [show e + 1 - 1 = e by omega]; exact qe)) (fun s hs' t ht => ?_)
    by_cases y : e ≤ s ∧ s < e + 1
    · have : dr_b (dr_Sh (dr_q st inner j) S X w inner s) = false := dr_b_f.mpr (fun x => by
        have := dr_sh_q x
        rw [show s = e by omega, qe] at this
        exact Bool.noConfusion this)
      rw [this, Bool.and_false, Bool.and_false, Bool.or_false]
    · rw [decide_eq_false y, Bool.false_and, Bool.and_false, Bool.or_false]
  · have ke : k < e := by omega
    have t1 : (k = 0 ∨ e = S) → wX_markRun_69 post (nI j) (nI k) (nI w) (nI inner.toNat) (nI e) (nI S) ct lf rt ro sx st mk cl := fun y => by
      unfold wX_markRun_69
      exact dr_mk74 (o := true) hS hs hj hw ke he ⟨fun _ => y, fun _ => rfl⟩ (go ke)
    refine pk_eq k 0 (fun y => t1 (Or.inl y)) (fun y => pk_eq e S (fun x => t1 (Or.inr x)) (fun x => ?_))
    exact dr_mk74 (o := false) hS hs hj hw ke he ⟨fun v => Bool.noConfusion v, fun v => by omega⟩ (go ke)
theorem dr_mk15 {post : Int32 → SX → Prop} {S j k w : Nat} {inner : Bool} (s16 : S ≤ 16) (hj : j < 16)
    (K : ∀ e, k ≤ e → e ≤ S → (∀ t, k ≤ t → t < e → dr_q st inner j t = true) → (e < S → dr_q st inner j e = false) →
      wX_markRun_46 post (nI j) (nI k) (nI w) (nI inner.toNat) (nI e) (nI S) ct lf rt ro sx st mk cl) :
    ∀ n e, k ≤ e → e ≤ S → S - e < n → (∀ t, k ≤ t → t < e → dr_q st inner j t = true) →
      wX_markRun_15 post (nI j) (nI k) (nI w) (nI inner.toNat) (nI (!inner).toNat) (nI S) ct lf rt ro sx st mk cl n (nI e) := by
  intro n
  induction n with
  | zero => intro e h1 h2 h3; omega
  | succ n ih =>
    intro e h1 h2 h3 hr
    rw [wX_markRun_15]
    dsimp only
    rw [nI_clamp (by omega : e < 2 ^ 31), dr_bit (st e) (by omega : j < 32)]
    refine pk_le S e (fun z => K e h1 h2 hr (fun y => by omega)) (fun z => ⟨vp_in_nI (by omega) (by decide), dr_bre (fun y => nm_r (nI_1 _) (ih (e + 1) (by omega) (by omega) (by omega) (fun t t1 t2 => ?_))) (fun y => K e h1 h2 hr (fun _ => ?_))⟩)
    · rcases Nat.lt_or_ge t e with a | a
      · exact hr t t1 a
      · rw [show t = e by omega]
        unfold dr_q
        rw [y]
        cases inner <;> rfl
    · unfold dr_q
      revert y
      cases bt (st e) j <;> cases inner <;> simp
theorem dr_markRun {post : Int32 → SX → Prop} {S j k w : Nat} {X : Nat → Nat} {inner : Bool} (hS : dr_St S X) (hs : ∀ k, k ≤ S → sx k = nI (X k)) (hj : j < 16) (hw : w < 1000)
    (hk : k < S) (hb : 0 < k → dr_q st inner j (k - 1) = false ∨ dr_q st inner j k = false)
    (hp : ∀ k' mk', k < k' → k' ≤ S → (k' < S → dr_q st inner j (k' - 1) = false ∨ dr_q st inner j k' = false) →
      (∀ s, s < S → ∀ t, t < 32 → bt (mk' s) t = (bt (mk s) t || (decide (t = j) && (decide (k ≤ s ∧ s < k') && dr_b (dr_Sh (dr_q st inner j) S X w inner s))))) → post (nI k') (nI S, ct, lf, rt, ro, sx, st, mk', cl)) :
    wpX_markRun post (nI S, ct, lf, rt, ro, sx, st, mk, cl) (nI j) (nI k) (nI w) (nI inner.toNat) := by
  have L := dr_mk15 (post := post) (w := w) (inner := inner) (k := k) (ct := ct) (lf := lf) (rt := rt) (ro := ro) (sx := sx) (st := st) (mk := mk) (cl := cl) (dr_S16 hS) hj
    (fun e e1 e2 e3 e4 => dr_mk46 hS hs hj hw hk e1 e2 hb e3 e4 hp) (S + 1) k (Nat.le_refl k) (by omega) (by omega) (fun t t1 t2 => by omega)
  unfold wpX_markRun
  dsimp only
  refine dr_br (fun e => ⟨S + 1, ?_⟩) (fun e => ⟨S + 1, ?_⟩)
  · subst e
    exact L
  · subst e
    exact L
theorem dr_ms11 {post : SX → Prop} {J2 : Int32 → Int32 → (Nat → Int32) → (Nat → Int32) → (Nat → Int32) → (Nat → Int32) → (Nat → Int32) → (Nat → Int32) → (Nat → Int32) → (Nat → Int32) → Prop}
    {S j w : Nat} {X : Nat → Nat} {inner : Bool} (hS : dr_St S X) (hs : ∀ k, k ≤ S → sx k = nI (X k)) (hj : j < 16) (hw : w < 1000)
    (K : ∀ mk', (∀ s, s < S → ∀ t, t < 32 → bt (mk' s) t = (bt (mk s) t || (decide (t = j) && dr_b (dr_Sh (dr_q st inner j) S X w inner s)))) → J2 (nI (j + 1)) (nI S) ct lf rt ro sx st mk' cl) :
    ∀ n k mk1, k ≤ S → S - k < n → (0 < k → k < S → dr_q st inner j (k - 1) = false ∨ dr_q st inner j k = false) →
      (∀ s, s < S → ∀ t, t < 32 → bt (mk1 s) t = (bt (mk s) t || (decide (t = j) && (decide (s < k) && dr_b (dr_Sh (dr_q st inner j) S X w inner s))))) →
      wX_markShortRows_11 post J2 (nI w) (nI inner.toNat) (nI j) n (nI k) (nI S) ct lf rt ro sx st mk1 cl := by
  have s16 := dr_S16 hS
  intro n
  induction n with
  | zero => intro k mk1 h1 h2; omega
  | succ n ih =>
    intro k mk1 h1 h2 hb hm
    rw [wX_markShortRows_11]
    dsimp only
    refine pk_le S k (fun z => nm_r (nI_1 _) (K mk1 (fun s h t ht => ?_))) (fun z => ?_)
    · rw [hm s h t ht, decide_eq_true (by omega : s < k), Bool.true_and]
    · refine dr_markRun hS hs hj hw z (fun y => hb y z) (fun k' mk' k1 k2 k3 h => ?_)
      refine ih k' mk' k2 (by omega) (fun _ => k3) (fun s hs' t ht => ?_)
      rw [h s hs' t ht, hm s hs' t ht]
      rcases Nat.lt_or_ge s k with a | a
      · rw [decide_eq_true a, decide_eq_false (by omega : ¬ (k ≤ s ∧ s < k')), decide_eq_true (by omega : s < k'), Bool.false_and, Bool.and_false, Bool.or_false]
      · rw [decide_eq_false (by omega : ¬ s < k), Bool.false_and, Bool.and_false, Bool.or_false]
        congr 3
        apply decide_eq_decide.mpr
        omega
theorem dr_ms2 {post : SX → Prop} {S w : Nat} {X : Nat → Nat} {inner : Bool} (hS : dr_St S X) (hs : ∀ k, k ≤ S → sx k = nI (X k)) (hw : w < 1000)
    (hp : ∀ mk', (∀ s, s < S → ∀ t, t < 32 → bt (mk' s) t = (bt (mk s) t || (decide (t < 16) && dr_b (dr_Sh (dr_q st inner t) S X w inner s)))) → post (nI S, ct, lf, rt, ro, sx, st, mk', cl)) :
    ∀ n j mk1, j ≤ 16 → 16 - j < n → (∀ s, s < S → ∀ t, t < 32 → bt (mk1 s) t = (bt (mk s) t || (decide (t < j) && dr_b (dr_Sh (dr_q st inner t) S X w inner s)))) →
      wX_markShortRows_2 post (nI w) (nI inner.toNat) n (nI j) (nI S) ct lf rt ro sx st mk1 cl := by
  intro n
  induction n with
  | zero => intro j mk1 h1 h2; omega
  | succ n ih =>
    intro j mk1 h1 h2 hm
    rw [wX_markShortRows_2]
    dsimp only
    refine pk_le 16 j (fun z => ?_) (fun z => ⟨S + 1, ?_⟩)
    · have : j = 16 := by omega
      subst this
      exact hp mk1 hm
    · refine dr_ms11 (mk := mk1) hS hs z hw (fun mk' h => ih (j + 1) mk' (by omega) (by omega) (fun s hs' t ht => ?_)) (S + 1) 0 mk1 (by omega) (by omega) (fun y => by omega) (fun s hs' t ht => ?_)
      · rw [h s hs' t ht, hm s hs' t ht]
        rcases Nat.lt_trichotomy t j with a | a | a
        · rw [decide_eq_true a, decide_eq_false (by omega : ¬ t = j), decide_eq_true (by omega : t < j + 1), Bool.false_and, Bool.or_false]
        · subst a
          rw [decide_eq_false (by omega : ¬ t < t), decide_eq_true (rfl : t = t), decide_eq_true (by omega : t < t + 1), Bool.false_and, Bool.or_false]
        · rw [decide_eq_false (by omega : ¬ t < j), decide_eq_false (by omega : ¬ t = j), decide_eq_false (by omega : ¬ t < j + 1), Bool.false_and, Bool.false_and, Bool.or_false, Bool.or_false]
      · rw [decide_eq_false (by omega : ¬ s < 0), Bool.false_and, Bool.and_false, Bool.or_false]
theorem dr_markRows {post : SX → Prop} {S w : Nat} {X : Nat → Nat} {inner : Bool} (hS : dr_St S X) (hs : ∀ k, k ≤ S → sx k = nI (X k)) (hw : w < 1000)
    (hp : ∀ mk', (∀ s, s < S → ∀ t, t < 32 → bt (mk' s) t = (bt (mk s) t || (decide (t < 16) && dr_b (dr_Sh (dr_q st inner t) S X w inner s)))) → post (nI S, ct, lf, rt, ro, sx, st, mk', cl)) :
    wpX_markShortRows post (nI S, ct, lf, rt, ro, sx, st, mk, cl) (nI w) (nI inner.toNat) :=
  ⟨17, dr_ms2 hS hs hw hp 17 0 mk (by omega) (by omega) (fun s _ t _ => by rw [decide_eq_false (by omega : ¬ t < 0), Bool.false_and, Bool.or_false])⟩
theorem dr_marea {post : Int32 → Prop} {S : Nat} {X : Nat → Nat} {M : Nat → Nat → Bool} (hS : dr_St S X) (hK : dr_K S X M) (hs : ∀ k, k ≤ S → sx k = nI (X k))
    (hb : ∀ k, k < S → ∀ j, j < 18 → bt (mk k) j = dr_pd M (X k + 1) (j + 1)) (hp : post (nI (dr_sm (dr_F0 M) 16))) :
    wpX_markedArea post (nI S, ct, lf, rt, ro, sx, st, mk, cl) := by
  have s16 := dr_S16 hS
  refine dr_lw (fun n a i => wX_markedArea_4 post (nI S) ct lf rt ro sx st mk cl n a i) (fun k => (X (k + 1) - X k) * dr_F0 M (X k)) 0 S (fun n => ?_) (fun n k hk K => ?_)
  · rw [wX_markedArea_4, Nat.zero_add, dr_K_F0 hS hK]
    exact br_t (nI_le (Nat.le_refl S) (by omega)) hp
  · rw [wX_markedArea_4]
    dsimp only
    rw [nI_clamp (by omega : k < 2 ^ 31)]
    refine br_f (nI_ge hk (by omega)) (dr_width hS hs hk ⟨vp_in_nI (by omega) (by decide), ?_⟩)
    refine dr_bitsF (mk k) (fun j => dr_pd M (X k + 1) (j + 1)) (fun j hj => hb k hk j (by omega)) (nm_r ?_ (nm_r (nI_1 _) K))
    rw [pk_mul, nI_add, Nat.add_assoc]
    rfl
/-- the marks: short runs of a column or of a row -/
noncomputable def dr_M (h : Nat → Nat → Bool) (w : Nat) (inner : Bool) (i j : Nat) : Bool :=
  dr_b (dr_Sh (fun t => h i t) 16 id w inner j) || dr_b (dr_Sh (fun t => h t j) 16 id w inner i)
theorem dr_M_K {S w : Nat} {X : Nat → Nat} {h : Nat → Nat → Bool} {inner : Bool} (hS : dr_St S X) (hK : dr_K S X h) : dr_K S X (dr_M h w inner) := by
  intro k hk i h1 h2 j
  have x1 := hS.2.2 k hk
  unfold dr_M
  congr 1
  · apply dr_b_c
    exact dr_sh_c (fun t _ => hK k hk i h1 h2 t)
  · apply dr_b_c
    have hp : ∀ k, k < S → ∀ i, X k ≤ i → i < X (k + 1) → (fun t => h t j) i = (fun k => h (X k) j) k := fun k hk i a b => hK k hk i a b j
    rw [← dr_sh_map hS hp hk h1 h2, ← dr_sh_map hS hp hk (Nat.le_refl _) x1]
/-- behind the first marks: the rows' marks and the area -/
theorem dr_fin {post : Int32 → SX → Prop} {S w : Nat} {X : Nat → Nat} {g : Nat → Nat → Bool} {inner : Bool} (H : dr_SW S X g sx st) (hw : w < 1000)
    (hm : ∀ k, k < S → ∀ t, t < 32 → bt (mk k) t = dr_b (dr_Sh (fun t => g (X k) t ^^ inner) 16 id w inner t))
    (hp : ∀ mk', post (nI (dr_sm (dr_F0 (dr_M (fun i j => g i j ^^ inner) w inner)) 16)) (nI S, ct, lf, rt, ro, sx, st, mk', cl)) :
    wpX_markShortRows (fun u => wpX_markedArea (fun r => post r u) u) (nI S, ct, lf, rt, ro, sx, st, mk, cl) (nI w) (nI inner.toNat) := by
  obtain ⟨hS, hK, hs, hb⟩ := H
  have s16 := dr_S16 hS
  refine dr_markRows hS hs hw (fun mk' h => ?_)
  have hK' : dr_K S X (fun i j => g i j ^^ inner) := fun k hk i a b j => by
    show (g i j ^^ inner) = (g (X k) j ^^ inner)
    rw [hK k hk i a b j]
  refine dr_marea hS (dr_M_K hS hK') hs (fun k hk j hj => ?_) (hp mk')
  have x1 := hS.2.2 k hk
  have x2 := dr_X16 hS (k := k + 1) (by omega)
  rw [h k hk j (by omega), hm k hk j (by omega)]
  rcases Nat.lt_or_ge j 16 with a | a
  · rw [dr_pd_in (by omega) a, decide_eq_true a, Bool.true_and]
    unfold dr_M
    congr 1
    apply dr_b_c
    refine dr_sh_map hS (fun k hk i a1 b1 => ?_) hk (Nat.le_refl _) x1
    unfold dr_q
    have x1' := hS.2.2 k hk
    have x2' := dr_X16 hS (k := k + 1) (by omega)
    show (g i j ^^ inner) = _
    rw [hb k hk j (by omega), dr_pd_in (by omega) a, hK k hk i a1 b1 j]
  · rw [dr_pd_out (by omega), decide_eq_false (by omega), Bool.false_and, Bool.or_false]
    exact dr_b_f.mpr (fun s => by have := dr_sh_N s; omega)
theorem dr_xthin {post : Int32 → SX → Prop} {S w : Nat} {X : Nat → Nat} {g : Nat → Nat → Bool} (H : dr_SW S X g sx st) (hw : w < 1000)
    (hp : ∀ mk', post (nI (dr_sm (dr_F0 (dr_M (fun i j => g i j ^^ false) w false)) 16)) (nI S, ct, lf, rt, ro, sx, st, mk', cl)) :
    ∀ n k mk, k ≤ S → S - k < n → (∀ i, i < k → ∀ t, t < 32 → bt (mk i) t = dr_b (dr_Sh (fun t => g (X i) t ^^ false) 16 id w false t)) →
      wX_thin_31 post (nI w) (nI S) n (nI k) ct lf rt ro sx st mk cl := by
  have s16 := dr_S16 H.1
  intro n
  induction n with
  | zero => intro k mk h1 h2; omega
  | succ n ih =>
    intro k mk h1 h2 hm
    rw [wX_thin_31]
    dsimp only
    rw [nI_clamp (by omega : k < 2 ^ 31)]
    refine pk_le S k (fun z => ?_) (fun z => ⟨vp_in_nI (by omega) (by decide), ?_⟩)
    · exact dr_fin (inner := false) H hw (fun i hi => hm i (by omega)) hp
    · refine dr_short (inner := false) hw (fun r hr => ⟨vp_in_nI (by omega) (by decide), nm_e (nm_r (nI_1 _) (ih (k + 1) _ (by omega) (by omega) (fun i hi t ht => ?_)))⟩)
      by_cases e : i = k
      · subst e
        rw [pk_us, hr t ht]
        apply dr_b_c
        refine dr_sh_c (fun t ht => ?_)
        have x1 := H.1.2.2 i z
        have x2 := dr_X16 H.1 (k := i + 1) (by omega)
        rw [H.2.2.2 i z t (by omega), dr_pd_in (by omega) ht, Bool.xor_false]
      · rw [pk_un e]
        exact hm i (by omega) t ht
theorem dr_xgaps {post : Int32 → SX → Prop} {S w : Nat} {X : Nat → Nat} {g : Nat → Nat → Bool} (H : dr_SW S X g sx st) (hw : w < 1000)
    (hp : ∀ mk', post (nI (dr_sm (dr_F0 (dr_M (fun i j => g i j ^^ true) w true)) 16)) (nI S, ct, lf, rt, ro, sx, st, mk', cl)) :
    ∀ n k mk, k ≤ S → S - k < n → (∀ i, i < k → ∀ t, t < 32 → bt (mk i) t = dr_b (dr_Sh (fun t => g (X i) t ^^ true) 16 id w true t)) →
      wX_gaps_31 post (nI w) (nI S) n (nI k) ct lf rt ro sx st mk cl := by
  have s16 := dr_S16 H.1
  intro n
  induction n with
  | zero => intro k mk h1 h2; omega
  | succ n ih =>
    intro k mk h1 h2 hm
    rw [wX_gaps_31]
    dsimp only
    rw [nI_clamp (by omega : k < 2 ^ 31)]
    refine pk_le S k (fun z => ?_) (fun z => ⟨vp_in_nI (by omega) (by decide), ?_⟩)
    · exact dr_fin (inner := true) H hw (fun i hi => hm i (by omega)) hp
    · refine dr_short (inner := true) hw (fun r hr => ⟨vp_in_nI (by omega) (by decide), nm_e (nm_r (nI_1 _) (ih (k + 1) _ (by omega) (by omega) (fun i hi t ht => ?_)))⟩)
      by_cases e : i = k
      · subst e
        rw [pk_us, hr t ht]
        apply dr_b_c
        refine dr_sh_c (fun t ht => ?_)
        have x1 := H.1.2.2 i z
        have x2 := dr_X16 H.1 (k := i + 1) (by omega)
        rw [b_and, b_xor, b_m1 t (by omega), b_65535, decide_eq_true ht, Bool.and_true, H.2.2.2 i z t (by omega), dr_pd_in (by omega) ht]
      · rw [pk_un e]
        exact hm i (by omega) t ht
end
end
section
/-! ===== Y: runs ===== -/
theorem dr_ng {z : Int32} {d : Nat} (e : z + 1 = nI d) (e0 : d = 0) : z < 0 := by
  have : z = -1 := by
    rw [e0] at e
    have e2 : z + 1 = (-1) + 1 := e
    exact (Int32.add_left_inj 1).mp e2
  rw [this]
  decide
theorem dr_ps {z : Int32} {d : Nat} (e : z + 1 = nI (d + 1)) : z = nI d := by
  rw [← nI_1] at e
  exact (Int32.add_left_inj 1).mp e
theorem dr_subp {a b : Nat} (h : b ≤ a + 1) : nI a - nI b + 1 = nI (a + 1 - b) := by
  rw [← pk_sub h, ← nI_1]
  grind
theorem dr_areaM (M : Nat → Nat → Bool) : dr_sm (dr_F0 M) 16 = dr_sm (fun j => dr_sm (fun i => (M i j).toNat) 16) 16 := by
  rw [← dr_sm_swap]
  refine dr_sm_congr (fun i hi => ?_)
  show dr_sm (fun j => (dr_pd M (i + 1) (j + 1)).toNat) (16 + 2) = _
  rw [dr_sm_cut 2 (fun t ht => by rw [dr_pd_out (by omega)]; rfl)]
  exact dr_sm_congr (fun j hj => by rw [dr_pd_in hi hj])
def dr_ok (g : Nat → Nat → Bool) (want : Bool) (a b : Nat) : Prop := 1 ≤ a ∧ a ≤ 16 ∧ 1 ≤ b ∧ b ≤ 16 ∧ dr_pd g a b = want
theorem dr_ok_t {g : Nat → Nat → Bool} {inner : Bool} {i j : Nat} (h : dr_ok g (!inner) (i + 1) (j + 1)) : (g i j ^^ inner) = true := by
  obtain ⟨_, h1, _, h2, h3⟩ := h
  rw [dr_pd_in (by omega) (by omega)] at h3
  rw [h3]
  cases inner <;> rfl
theorem dr_ok_f {g : Nat → Nat → Bool} {inner : Bool} {i j : Nat} (hi : i < 16) (hj : j < 16) (h : ¬ dr_ok g (!inner) (i + 1) (j + 1)) : (g i j ^^ inner) = false := by
  cases e : (g i j ^^ inner) with
  | false => rfl
  | true =>
    refine absurd ⟨by omega, by omega, by omega, by omega, ?_⟩ h
    rw [dr_pd_in hi hj]
    revert e
    cases g i j <;> cases inner <;> simp
section
variable {yc yl yr yb yt ys : Nat → Int32}
theorem dr_run12 {post : Int32 → Prop} {g : Nat → Nat → Bool} (HG : dr_G g ys) {dx dy : Int32} {want : Bool} {px py : Nat → Nat}
    (hx : ∀ t, 1 ≤ px t → nI (px t) + dx = nI (px (t + 1))) (hy : ∀ t, 1 ≤ py t → nI (py t) + dy = nI (py (t + 1)))
    (bx : ∀ t, t ≤ 16 → px t < 1000) (bY : ∀ t, t ≤ 16 → py t < 1000)
    (hp : ∀ r, r ≤ 16 → (∀ t, t < r → dr_ok g want (px t) (py t)) → (r < 16 → ¬ dr_ok g want (px r) (py r)) → post (nI r)) :
    ∀ n t x7 x8, t ≤ 16 → 16 - t < n → x7 + 1 = nI (px t) → x8 + 1 = nI (py t) → (∀ s, s < t → dr_ok g want (px s) (py s)) →
      wY_run_12 post dx dy (nI want.toNat) yc yl yr yb yt ys n (nI t) x7 x8 (nI t) := by
  intro n
  induction n with
  | zero => intro t x7 x8 h1 h2; omega
  | succ n ih =>
    intro t x7 x8 h1 h2 e7 e8 hr
    have b1 := bx t h1
    have b2 := bY t h1
    rw [wY_run_12]
    dsimp only
    refine pk_le 16 t (fun z => hp t h1 hr (fun y => by omega)) (fun z => ?_)
    have stop : ¬ dr_ok g want (px t) (py t) → post (nI t) := fun y => hp t h1 hr (fun _ => y)
    rcases Nat.eq_zero_or_pos (px t) with a0 | a0
    · exact br_t (dr_ng e7 a0) (stop (fun y => by have := y.1; omega))
    · obtain ⟨i, ei⟩ : ∃ i, px t = i + 1 := ⟨px t - 1, by omega⟩
      have x7e : x7 = nI i := dr_ps (by rw [e7, ei])
      subst x7e
      refine br_f (nI_pos (by omega)) (pk_lt 15 i (fun y => stop (fun w => by have := w.2.1; omega)) (fun y => ?_))
      rcases Nat.eq_zero_or_pos (py t) with c0 | c0
      · exact br_t (dr_ng e8 c0) (stop (fun y => by have := y.2.2.1; omega))
      · obtain ⟨j, ej⟩ : ∃ j, py t = j + 1 := ⟨py t - 1, by omega⟩
        have x8e : x8 = nI j := dr_ps (by rw [e8, ej])
        subst x8e
        refine br_f (nI_pos (by omega)) (pk_lt 15 j (fun y => stop (fun w => by have := w.2.2.2.1; omega)) (fun w => ?_))
        refine dr_yin HG e7 e8 (by omega) (by omega) (dr_bre (fun v => ?_) (fun v => stop (fun u => v u.2.2.2.2)))
        refine nm_r (nI_1 _) (nm_e (nm_e (nm_r (nI_1 _) (ih (t + 1) _ _ (by omega) (by omega) ?_ ?_ (fun s hs => ?_)))))
        · rw [← hx t (by omega), ← e7]
          grind
        · rw [← hy t (by omega), ← e8]
          grind
        · rcases Nat.lt_or_ge s t with u | u
          · exact hr s u
          · rw [show s = t by omega]
            exact ⟨by omega, by omega, by omega, by omega, v⟩
theorem dr_runR {post : Int32 → Prop} {g : Nat → Nat → Bool} (HG : dr_G g ys) {inner : Bool} {i j : Nat} (hi : i < 16) (hj : j < 16)
    (hp : ∀ r, i + r ≤ 16 → (∀ t, t < r → (g (i + t) j ^^ inner) = true) → (i + r < 16 → (g (i + r) j ^^ inner) = false) → post (nI r)) :
    wpY_run post (yc, yl, yr, yb, yt, ys) (nI i) (nI j) 1 0 (nI (!inner).toNat) := by
  refine ⟨17, dr_run12 HG (px := fun t => i + t + 1) (py := fun _ => j + 1) (fun t _ => nI_1 _) (fun t _ => Int32.add_zero _) (fun t ht => by omega) (fun t ht => by omega)
    (fun r h1 h2 h3 => ?_) 17 0 (nI i) (nI j) (by omega) (by omega) (nI_1 i) (nI_1 j) (fun s hs => by omega)⟩
  refine hp r ?_ (fun t ht => dr_ok_t (h2 t ht)) (fun y => dr_ok_f y hj (h3 (by omega)))
  rcases Nat.eq_zero_or_pos r with z | z
  · omega
  · have := (h2 (r - 1) (by omega)).2.1
    omega
theorem dr_runU {post : Int32 → Prop} {g : Nat → Nat → Bool} (HG : dr_G g ys) {inner : Bool} {i j : Nat} (hi : i < 16) (hj : j < 16)
    (hp : ∀ r, j + r ≤ 16 → (∀ t, t < r → (g i (j + t) ^^ inner) = true) → (j + r < 16 → (g i (j + r) ^^ inner) = false) → post (nI r)) :
    wpY_run post (yc, yl, yr, yb, yt, ys) (nI i) (nI j) 0 1 (nI (!inner).toNat) := by
  refine ⟨17, dr_run12 HG (px := fun _ => i + 1) (py := fun t => j + t + 1) (fun t _ => Int32.add_zero _) (fun t _ => nI_1 _) (fun t ht => by omega) (fun t ht => by omega)
    (fun r h1 h2 h3 => ?_) 17 0 (nI i) (nI j) (by omega) (by omega) (nI_1 i) (nI_1 j) (fun s hs => by omega)⟩
  refine hp r ?_ (fun t ht => dr_ok_t (h2 t ht)) (fun y => dr_ok_f hi y (h3 (by omega)))
  rcases Nat.eq_zero_or_pos r with z | z
  · omega
  · have := (h2 (r - 1) (by omega)).2.2.2.1
    omega
theorem dr_runL {post : Int32 → Prop} {g : Nat → Nat → Bool} (HG : dr_G g ys) {inner : Bool} {i j : Nat} (hi : i < 16) (hj : j < 16)
    (hp : ∀ r, r ≤ i + 1 → (∀ t, t < r → (g (i - t) j ^^ inner) = true) → (r ≤ i → (g (i - r) j ^^ inner) = false) → post (nI r)) :
    wpY_run post (yc, yl, yr, yb, yt, ys) (nI i) (nI j) (-1) 0 (nI (!inner).toNat) := by
  refine ⟨17, dr_run12 HG (px := fun t => i + 1 - t) (py := fun _ => j + 1) (fun t ht => ?_) (fun t _ => Int32.add_zero _) (fun t ht => by omega) (fun t ht => by omega)
    (fun r h1 h2 h3 => ?_) 17 0 (nI i) (nI j) (by omega) (by omega) (nI_1 i) (nI_1 j) (fun s hs => by omega)⟩
  · rw [show i + 1 - t = i + 1 - (t + 1) + 1 by omega]
    exact pk_m1 _
  · have h0 : r ≤ i + 1 := by
      rcases Nat.eq_zero_or_pos r with z | z
      · omega
      · have := (h2 (r - 1) (by omega)).1
        omega
    refine hp r h0 (fun t ht => ?_) (fun y => ?_)
    · have := h2 t ht
      rw [show i + 1 - t = i - t + 1 by omega] at this
      exact dr_ok_t this
    · have := h3 (by omega)
      rw [show i + 1 - r = i - r + 1 by omega] at this
      exact dr_ok_f (by omega) hj this
theorem dr_runD {post : Int32 → Prop} {g : Nat → Nat → Bool} (HG : dr_G g ys) {inner : Bool} {i j : Nat} (hi : i < 16) (hj : j < 16)
    (hp : ∀ r, r ≤ j + 1 → (∀ t, t < r → (g i (j - t) ^^ inner) = true) → (r ≤ j → (g i (j - r) ^^ inner) = false) → post (nI r)) :
    wpY_run post (yc, yl, yr, yb, yt, ys) (nI i) (nI j) 0 (-1) (nI (!inner).toNat) := by
  refine ⟨17, dr_run12 HG (px := fun _ => i + 1) (py := fun t => j + 1 - t) (fun t _ => Int32.add_zero _) (fun t ht => ?_) (fun t ht => by omega) (fun t ht => by omega)
    (fun r h1 h2 h3 => ?_) 17 0 (nI i) (nI j) (by omega) (by omega) (nI_1 i) (nI_1 j) (fun s hs => by omega)⟩
  · rw [show j + 1 - t = j + 1 - (t + 1) + 1 by omega]
    exact pk_m1 _
  · have h0 : r ≤ j + 1 := by
      rcases Nat.eq_zero_or_pos r with z | z
      · omega
      · have := (h2 (r - 1) (by omega)).2.2.1
        omega
    refine hp r h0 (fun t ht => ?_) (fun y => ?_)
    · have := h2 t ht
      rw [show j + 1 - t = j - t + 1 by omega] at this
      exact dr_ok_t this
    · have := h3 (by omega)
      rw [show j + 1 - r = j - r + 1 by omega] at this
      exact dr_ok_f hi (by omega) this
theorem dr_len {a b : Nat} (h : 0 < b) : nI a + nI b - 1 = nI (a + b - 1) := by
  rw [nI_add]
  obtain ⟨d, rfl⟩ : ∃ d, b = d + 1 := ⟨b - 1, by omega⟩
  exact nI_pred (a + d)
/-- a short run by the two lengths -/
theorem dr_sh_len {p : Nat → Bool} {i on back w : Nat} {inner : Bool} (hi : i < 16) (o1 : i + on ≤ 16) (b1 : back ≤ i + 1) (on0 : 0 < on) (bk0 : 0 < back) (r : dr_Run p 16 (i + 1 - back) (i + on)) :
    dr_Sh p 16 id w inner i ↔ (on + back - 1 < w ∧ (inner = true → back ≤ i ∧ i + on < 16)) := by
  rw [dr_sh_run r (by omega) (by omega)]
  show i + on - (i + 1 - back) < w ∧ _ ↔ _
  rw [show i + on - (i + 1 - back) = on + back - 1 by omega, show 0 < i + 1 - back ↔ back ≤ i from ⟨fun z => by omega, fun z => by omega⟩]
theorem dr_btwX {post : Int32 → Prop} {g : Nat → Nat → Bool} (HG : dr_G g ys) {i j w : Nat} (hi : i < 16) (hj : j < 16) (hw : w < 1000) (hg : g i j = false)
    (hp : post (nI (dr_b (dr_Sh (fun t => g t j ^^ true) 16 id w true i)).toNat)) : wpY_between post (yc, yl, yr, yb, yt, ys) (nI i) (nI j) 1 0 (nI w) := by
  unfold wpY_between
  dsimp only
  rw [Int32.neg_zero]
  refine dr_runR (inner := true) HG hi hj (fun on o1 o2 o3 => ?_)
  refine dr_runL (inner := true) HG hi hj (fun bk b1 b2 b3 => ?_)
  obtain ⟨on0, bk0, rn⟩ := dr_run_on (p := fun t => g t j ^^ true) hi (by show (g i j ^^ true) = true; rw [hg]; rfl) o1 o2 o3 b1 b2 b3
  have S := dr_sh_len (w := w) (inner := true) hi o1 b1 on0 bk0 rn
  have n0 : ¬ (on + bk - 1 < w ∧ bk ≤ i ∧ i + on < 16) → post 0 := fun z => by
    rw [dr_b_f.mpr (fun s => z ⟨(S.mp s).1, (S.mp s).2 rfl⟩)] at hp
    exact hp
  have y1 : (on + bk - 1 < w ∧ bk ≤ i ∧ i + on < 16) → post 1 := fun z => by
    rw [dr_b_t.mpr (S.mpr ⟨z.1, fun _ => z.2⟩)] at hp
    exact hp
  rw [Int32.mul_one, Int32.mul_zero, Int32.mul_one, Int32.mul_zero, Int32.add_zero, Int32.sub_zero]
  have eon : dr_pd g (i + on + 1) (j + 1) = decide (i + on < 16) := by
    by_cases z : i + on < 16
    · rw [dr_pd_in z hj, decide_eq_true z]
      have := o3 z
      revert this
      cases g (i + on) j <;> simp
    · rw [dr_pd_out (by omega), decide_eq_false z]
  have ebk : dr_pd g (i + 1 - bk) (j + 1) = decide (bk ≤ i) := by
    by_cases z : bk ≤ i
    · rw [show i + 1 - bk = i - bk + 1 by omega, dr_pd_in (by omega) hj, decide_eq_true z]
      have := b3 z
      revert this
      cases g (i - bk) j <;> simp
    · rw [dr_pd_out (by omega), decide_eq_false z]
  refine dr_yin HG (a := i + on + 1) (by rw [nI_add, nI_1]) (nI_1 j) (by omega) (by omega) ?_
  rw [eon]
  refine dr_br (fun e => n0 (fun z => ?_)) (fun e => ?_)
  · rw [decide_eq_false_iff_not] at e
    omega
  · rw [decide_eq_true_eq] at e
    refine dr_yin HG (dr_subp b1) (nI_1 j) (by omega) (by omega) ?_
    rw [ebk, dr_len bk0]
    refine dr_br (fun e1 => n0 (fun z => ?_)) (fun e1 => ?_)
    · rw [decide_eq_false_iff_not] at e1
      omega
    · rw [decide_eq_true_eq] at e1
      exact pk_le w (on + bk - 1) (fun z => n0 (fun y => by omega)) (fun z => y1 ⟨z, e1, e⟩)
theorem dr_btwY {post : Int32 → Prop} {g : Nat → Nat → Bool} (HG : dr_G g ys) {i j w : Nat} (hi : i < 16) (hj : j < 16) (hw : w < 1000) (hg : g i j = false)
    (hp : post (nI (dr_b (dr_Sh (fun t => g i t ^^ true) 16 id w true j)).toNat)) : wpY_between post (yc, yl, yr, yb, yt, ys) (nI i) (nI j) 0 1 (nI w) := by
  unfold wpY_between
  dsimp only
  rw [Int32.neg_zero]
  refine dr_runU (inner := true) HG hi hj (fun on o1 o2 o3 => ?_)
  refine dr_runD (inner := true) HG hi hj (fun bk b1 b2 b3 => ?_)
  obtain ⟨on0, bk0, rn⟩ := dr_run_on (p := fun t => g i t ^^ true) hj (by show (g i j ^^ true) = true; rw [hg]; rfl) o1 o2 o3 b1 b2 b3
  have S := dr_sh_len (w := w) (inner := true) hj o1 b1 on0 bk0 rn
  have n0 : ¬ (on + bk - 1 < w ∧ bk ≤ j ∧ j + on < 16) → post 0 := fun z => by
    rw [dr_b_f.mpr (fun s => z ⟨(S.mp s).1, (S.mp s).2 rfl⟩)] at hp
    exact hp
  have y1 : (on + bk - 1 < w ∧ bk ≤ j ∧ j + on < 16) → post 1 := fun z => by
    rw [dr_b_t.mpr (S.mpr ⟨z.1, fun _ => z.2⟩)] at hp
    exact hp
  rw [Int32.mul_zero, Int32.mul_one, Int32.mul_zero, Int32.mul_one, Int32.add_zero, Int32.sub_zero]
  have eon : dr_pd g (i + 1) (j + on + 1) = decide (j + on < 16) := by
    by_cases z : j + on < 16
    · rw [dr_pd_in hi z, decide_eq_true z]
      have := o3 z
      revert this
      cases g i (j + on) <;> simp
    · rw [dr_pd_out (by omega), decide_eq_false z]
  have ebk : dr_pd g (i + 1) (j + 1 - bk) = decide (bk ≤ j) := by
    by_cases z : bk ≤ j
    · rw [show j + 1 - bk = j - bk + 1 by omega, dr_pd_in hi (by omega), decide_eq_true z]
      have := b3 z
      revert this
      cases g i (j - bk) <;> simp
    · rw [dr_pd_out (by omega), decide_eq_false z]
  refine dr_yin HG (nI_1 i) (b := j + on + 1) (by rw [nI_add, nI_1]) (by omega) (by omega) ?_
  rw [eon]
  refine dr_br (fun e => n0 (fun z => ?_)) (fun e => ?_)
  · rw [decide_eq_false_iff_not] at e
    omega
  · rw [decide_eq_true_eq] at e
    refine dr_yin HG (nI_1 i) (dr_subp b1) (by omega) (by omega) ?_
    rw [ebk, dr_len bk0]
    refine dr_br (fun e1 => n0 (fun z => ?_)) (fun e1 => ?_)
    · rw [decide_eq_false_iff_not] at e1
      omega
    · rw [decide_eq_true_eq] at e1
      exact pk_le w (on + bk - 1) (fun z => n0 (fun y => by omega)) (fun z => y1 ⟨z, e1, e⟩)
theorem dr_ygaps {post : Int32 → SY → Prop} {g : Nat → Nat → Bool} {w : Nat} (HG : dr_G g ys) (hw : w < 1000)
    (hp : post (nI (dr_sm (dr_F0 (dr_M (fun i j => g i j ^^ true) w true)) 16)) (yc, yl, yr, yb, yt, ys)) : ∃ n, wY_gaps_29 post (nI w) yc yl yr yb yt ys n 0 0 := by
  refine dr_lw (fun n a i => wY_gaps_29 post (nI w) yc yl yr yb yt ys n a i) (fun j => dr_sm (fun i => (dr_M (fun i j => g i j ^^ true) w true i j).toNat) 16) 0 16 (fun n => ?_) (fun n j hj K => ?_)
  · rw [wY_gaps_29, Nat.zero_add, ← dr_areaM]
    exact br_t (nI_le (a := 16) (b := 16) (by omega) (by decide)) hp
  · rw [wY_gaps_29]
    dsimp only at K ⊢
    refine br_f (nI_ge (a := j) (b := 16) hj (by decide)) ?_
    refine dr_lw (fun m a i => wY_gaps_39 post (wY_gaps_29 post (nI w) yc yl yr yb yt ys n) (nI w) (nI j) yc yl yr yb yt ys m a i) (fun i => (dr_M (fun i j => g i j ^^ true) w true i j).toNat) _ 16 (fun m => ?_) (fun m i hi M => ?_)
    · rw [wY_gaps_39, Nat.add_assoc]
      exact br_t (nI_le (a := 16) (b := 16) (by omega) (by decide)) (nm_r (nI_1 _) K)
    · rw [wY_gaps_39]
      dsimp only at M ⊢
      unfold dr_M at M
      refine br_f (nI_ge (a := i) (b := 16) hi (by decide)) (dr_yin HG (nI_1 i) (nI_1 j) (by omega) (by omega) ?_)
      rw [dr_pd_in hi hj]
      refine dr_br (fun e => ?_) (fun e => nm_r (nI_1 _) ?_)
      · refine dr_btwX HG hi hj hw e (dr_br (fun e1 => ?_) (fun e1 => nm_r (nI_1 _) (nm_r (nI_1 _) ?_)))
        · refine dr_btwY HG hi hj hw e (dr_br (fun e2 => nm_r (nI_1 _) ?_) (fun e2 => nm_r (nI_1 _) (nm_r (nI_1 _) ?_)))
          · rw [e1, e2] at M
            exact M
          · rw [e1, e2] at M
            exact M
        · rw [e1, Bool.or_true] at M
          exact M
      · have z1 : dr_b (dr_Sh (fun t => g i t ^^ true) 16 id w true j) = false := dr_b_f.mpr (fun s => by
          have := dr_sh_q s
          rw [e] at this
          exact Bool.noConfusion this)
        have z2 : dr_b (dr_Sh (fun t => g t j ^^ true) 16 id w true i) = false := dr_b_f.mpr (fun s => by
          have := dr_sh_q s
          rw [e] at this
          exact Bool.noConfusion this)
        rw [z1, z2] at M
        exact M
theorem dr_ythin {post : Int32 → SY → Prop} {g : Nat → Nat → Bool} {w : Nat} (HG : dr_G g ys) (hw : w < 1000)
    (hp : post (nI (dr_sm (dr_F0 (dr_M (fun i j => g i j ^^ false) w false)) 16)) (yc, yl, yr, yb, yt, ys)) : ∃ n, wY_thin_29 post (nI w) yc yl yr yb yt ys n 0 0 := by
  refine dr_lw (fun n a i => wY_thin_29 post (nI w) yc yl yr yb yt ys n a i) (fun j => dr_sm (fun i => (dr_M (fun i j => g i j ^^ false) w false i j).toNat) 16) 0 16 (fun n => ?_) (fun n j hj K => ?_)
  · rw [wY_thin_29, Nat.zero_add, ← dr_areaM]
    exact br_t (nI_le (a := 16) (b := 16) (by omega) (by decide)) hp
  · rw [wY_thin_29]
    dsimp only at K ⊢
    refine br_f (nI_ge (a := j) (b := 16) hj (by decide)) ?_
    refine dr_lw (fun m a i => wY_thin_39 post (wY_thin_29 post (nI w) yc yl yr yb yt ys n) (nI w) (nI j) yc yl yr yb yt ys m a i) (fun i => (dr_M (fun i j => g i j ^^ false) w false i j).toNat) _ 16 (fun m => ?_) (fun m i hi M => ?_)
    · rw [wY_thin_39, Nat.add_assoc]
      exact br_t (nI_le (a := 16) (b := 16) (by omega) (by decide)) (nm_r (nI_1 _) K)
    · rw [wY_thin_39]
      dsimp only at M ⊢
      unfold dr_M at M
      refine br_f (nI_ge (a := i) (b := 16) hi (by decide)) (dr_yin HG (nI_1 i) (nI_1 j) (by omega) (by omega) ?_)
      rw [dr_pd_in hi hj]
      refine dr_br (fun e => nm_r (nI_1 _) ?_) (fun e => ?_)
      · have z1 : dr_b (dr_Sh (fun t => g i t ^^ false) 16 id w false j) = false := dr_b_f.mpr (fun s => by
          have := dr_sh_q s
          rw [e] at this
          exact Bool.noConfusion this)
        have z2 : dr_b (dr_Sh (fun t => g t j ^^ false) 16 id w false i) = false := dr_b_f.mpr (fun s => by
          have := dr_sh_q s
          rw [e] at this
          exact Bool.noConfusion this)
        rw [z1, z2] at M
        exact M
      · refine dr_runL (inner := false) HG hi hj (fun bk b1 b2 b3 => ?_)
        refine dr_runR (inner := false) HG hi hj (fun on o1 o2 o3 => ?_)
        obtain ⟨on0, bk0, rn⟩ := dr_run_on (p := fun t => g t j ^^ false) hi (by show (g i j ^^ false) = true; rw [e]; rfl) o1 o2 o3 b1 b2 b3
        have S1 := dr_sh_len (w := w) (inner := false) hi o1 b1 on0 bk0 rn
        refine nm_r (dr_len on0) ?_
        refine dr_runD (inner := false) HG hi hj (fun bk' c1 c2 c3 => ?_)
        refine dr_runU (inner := false) HG hi hj (fun on' d1 d2 d3 => ?_)
        obtain ⟨on0', bk0', rn'⟩ := dr_run_on (p := fun t => g i t ^^ false) hj (by show (g i j ^^ false) = true; rw [e]; rfl) d1 d2 d3 c1 c2 c3
        have S2 := dr_sh_len (w := w) (inner := false) hj d1 c1 on0' bk0' rn'
        refine nm_r (dr_len on0') ?_
        have nf : ¬ (false = true) := fun z => Bool.noConfusion z
        refine pk_lt (bk + on - 1) w (fun z => nm_r (nI_1 _) (nm_r (nI_1 _) ?_)) (fun z => pk_le w (bk' + on' - 1) (fun y => nm_r (nI_1 _) ?_) (fun y => nm_r (nI_1 _) (nm_r (nI_1 _) ?_)))
        · rw [dr_b_t.mpr (S1.mpr ⟨by omega, fun x => absurd x nf⟩), Bool.or_true] at M
          exact M
        · rw [dr_b_f.mpr (fun s => by have := (S1.mp s).1; omega : ¬ dr_Sh (fun t => g t j ^^ false) 16 id w false i), dr_b_f.mpr (fun s => by have := (S2.mp s).1; omega : ¬ dr_Sh (fun t => g i t ^^ false) 16 id w false j)] at M
          exact M
        · rw [dr_b_t.mpr (S2.mpr ⟨by omega, fun x => absurd x nf⟩), Bool.true_or] at M
          exact M
end
end
section
/-! ===== X: enclosure ===== -/
theorem dr_sub0 (x r : Int32) : (x &&& (r ^^^ (-1))) = 0 ↔ ∀ j, j < 32 → bt x j = true → bt r j = true := by
  constructor
  · intro h j hj hx
    have e : bt (x &&& (r ^^^ (-1))) j = false := by rw [h, b_0]
    rw [b_and, b_xor, b_m1 j hj, hx] at e
    revert e
    cases bt r j <;> simp
  · intro h
    apply b_ext
    intro j hj
    rw [b_0, b_and, b_xor, b_m1 j hj]
    cases e : bt x j with
    | false => rfl
    | true => rw [h j hj e]; rfl
section
variable {c L R B T : Nat → Nat} {f : Int32} {ct lf rt ro sx st mk cl : Nat → Int32}
theorem dr_wi2 {post : Int32 → Prop} {a : Nat} {D : Nat → Nat → Bool} (ha : a < 3) (HP : dr_RP c L R B T) (HX : dr_RX c L R B T ct lf rt ro)
    (hD : ∀ i, i < 16 → ∀ j, j < 32 → bt (cl i) j = D i j) (hj : ∀ i, i < 16 → ∀ j, 16 ≤ j → D i j = false)
    (p1 : (∀ i j, i < 16 → j < 16 → D i j = true → dr_cv c L R B T a i j = true) → post 1) (p0 : ¬ (∀ i j, i < 16 → j < 16 → D i j = true → dr_cv c L R B T a i j = true) → post 0) :
    ∀ n i, i ≤ 16 → 16 - i < n → (∀ k j, k < i → j < 16 → D k j = true → dr_cv c L R B T a k j = true) → wX_isWithin_2 post (nI a) f ct lf rt ro sx st mk cl n (nI i) := by
  intro n
  induction n with
  | zero => intro i h1 h2; omega
  | succ n ih =>
    intro i h1 h2 hr
    rw [wX_isWithin_2]
    dsimp only
    rw [nI_clamp (by omega : i < 2 ^ 31)]
    refine pk_le 16 i (fun z => p1 (fun k j hk hj' => hr k j (by omega) hj')) (fun z => ?_)
    refine dr_rows ha (by omega) HP HX (fun r hr' => ⟨vp_in_nI z (by decide), br_c (fun e => ?_) (fun e => p0 (fun w => e ?_))⟩)
    · rw [dr_sub0] at e
      refine nm_r (nI_1 _) (ih (i + 1) (by omega) (by omega) (fun k j hk hj' hk2 => ?_))
      rcases Nat.lt_or_ge k i with y | y
      · exact hr k j y hj' hk2
      · have ek : k = i := by omega
        subst ek
        rw [← hr' j (by omega)]
        exact e j (by omega) (by rw [hD k z j (by omega)]; exact hk2)
    · rw [dr_sub0]
      intro j hj' hb
      rw [hD i z j hj'] at hb
      rw [hr' j hj']
      rcases Nat.lt_or_ge j 16 with y | y
      · exact w i j z y hb
      · rw [hj i z j y] at hb
        exact Bool.noConfusion hb
theorem dr_within {post : Int32 → Prop} {a : Nat} {D : Nat → Nat → Bool} (ha : a < 3) (HP : dr_RP c L R B T) (HX : dr_RX c L R B T ct lf rt ro)
    (hD : ∀ i, i < 16 → ∀ j, j < 32 → bt (cl i) j = D i j) (hj : ∀ i, i < 16 → ∀ j, 16 ≤ j → D i j = false)
    (p1 : (∀ i j, i < 16 → j < 16 → D i j = true → dr_cv c L R B T a i j = true) → post 1) (p0 : ¬ (∀ i j, i < 16 → j < 16 → D i j = true → dr_cv c L R B T a i j = true) → post 0) :
    wpX_isWithin post (f, ct, lf, rt, ro, sx, st, mk, cl) (nI a) :=
  ⟨17, dr_wi2 ha HP HX hD hj p1 p0 17 0 (by omega) (by omega) (fun k j hk => by omega)⟩
theorem dr_wd47 {post : SX → Prop} {V : Nat → Nat → Bool} (hp : ∀ cl', (∀ i, i < 16 → ∀ j, j < 32 → bt (cl' i) j = dr_H V i j) → post (f, ct, lf, rt, ro, sx, st, mk, cl')) :
    ∀ n i x1 cl, i ≤ 16 → 16 - i < n → (∀ j, j < 32 → bt x1 j = (decide (1 ≤ i) && V (i - 1) j)) →
      (∀ k, k < 16 → ∀ j, j < 32 → bt (cl k) j = if k < i then dr_H V k j else V k j) → wX_widen_47 post f n x1 (nI i) ct lf rt ro sx st mk cl := by
  intro n
  induction n with
  | zero => intro i x1 cl h1 h2; omega
  | succ n ih =>
    intro i x1 cl h1 h2 hx hc
    rw [wX_widen_47]
    dsimp only
    rw [nI_1, nI_clamp (by omega : i < 2 ^ 31), nI_clamp (by omega : i + 1 < 2 ^ 31)]
    refine pk_le 16 i (fun z => hp cl (fun k hk j hj => ?_)) (fun z => ?_)
    · rw [hc k hk j hj, if_pos (by omega)]
    · have i16 : vp_in (nI i) 16 := vp_in_nI z (by decide)
      have own : ∀ j, j < 32 → bt (cl i) j = V i j := fun j hj => by rw [hc i z j hj, if_neg (by omega)]
      have nx : ∀ j, j < 32 → bt (cl i) j = (decide (1 ≤ i + 1) && V (i + 1 - 1) j) := fun j hj => by
        rw [own j hj, decide_eq_true (by omega), Bool.true_and, show i + 1 - 1 = i by omega]
      have fin : ∀ (cl2 : Nat → Int32), (∀ j, j < 32 → bt (cl2 i) j = dr_H V i j) → (∀ k, k ≠ i → cl2 k = cl k) → wX_widen_47 post f n (cl i) (nI (i + 1)) ct lf rt ro sx st mk cl2 := by
        intro cl2 g1 g2
        refine ih (i + 1) (cl i) cl2 (by omega) (by omega) nx (fun k hk j hj => ?_)
        by_cases e : k = i
        · subst e
          rw [if_pos (by omega)]
          exact g1 j hj
        · rw [g2 k e, hc k hk j hj]
          by_cases y : k < i
          · rw [if_pos y, if_pos (by omega)]
          · rw [if_neg y, if_neg (by omega)]
      refine ⟨i16, nm_e ⟨i16, i16, nm_e ?_⟩⟩
      refine pk_le 15 i (fun y => nm_e (fin _ (fun j hj => ?_) (fun k hk => pk_un hk))) (fun y => ⟨i16, vp_in_nI (by omega) (by decide), i16, nm_e (nm_e (fin _ (fun j hj => ?_) (fun k hk => ?_)))⟩)
      · unfold dr_H
        rw [pk_us, b_or, own j hj, hx j hj, decide_eq_false (by omega : ¬ i < 15), Bool.false_and, Bool.or_false]
      · unfold dr_H
        rw [pk_us, b_or, pk_us, pk_un (by omega), b_or, own j hj, hx j hj, hc (i + 1) (by omega) j hj, if_neg (by omega), decide_eq_true y, Bool.true_and]
      · rw [pk_un hk, pk_un hk]
theorem dr_wd2 {post : SX → Prop} {D : Nat → Nat → Bool}
    (hp : ∀ cl', (∀ i, i < 16 → ∀ j, j < 32 → bt (cl' i) j = dr_H (dr_V D) i j) → post (f, ct, lf, rt, ro, sx, st, mk, cl')) :
    ∀ n i cl, i ≤ 16 → 16 - i < n → (∀ k, k < 16 → ∀ j, j < 32 → bt (cl k) j = if k < i then dr_V D k j else D k j) → wX_widen_2 post f n (nI i) ct lf rt ro sx st mk cl := by
  intro n
  induction n with
  | zero => intro i cl h1 h2; omega
  | succ n ih =>
    intro i cl h1 h2 hc
    rw [wX_widen_2]
    dsimp only
    rw [nI_clamp (by omega : i < 2 ^ 31)]
    refine pk_le 16 i (fun z => ⟨17, ?_⟩) (fun z => ?_)
    · refine dr_wd47 hp 17 0 0 cl (by omega) (by omega) (fun j hj => ?_) (fun k hk j hj => ?_)
      · rw [b_0, decide_eq_false (by omega), Bool.false_and]
      · rw [hc k hk j hj, if_pos (by omega), if_neg (by omega)]
    · have i16 : vp_in (nI i) 16 := vp_in_nI z (by decide)
      have own : ∀ j, j < 32 → bt (cl i) j = D i j := fun j hj => by rw [hc i z j hj, if_neg (by omega)]
      refine ⟨i16, i16, i16, i16, nm_e (nm_r (nI_1 _) (ih (i + 1) _ (by omega) (by omega) (fun k hk j hj => ?_)))⟩
      by_cases e : k = i
      · subst e
        rw [pk_us, if_pos (by omega), b_or, b_and, b_or, b_65535, own j hj]
        unfold dr_V
        congr 1
        by_cases y : j < 16
        · rw [decide_eq_true y, Bool.and_true, Bool.and_true]
          congr 1
          · rw [dr_shl1 (cl k) hj]
            by_cases w : 1 ≤ j
            · rw [own (j - 1) (by omega)]
            · rw [decide_eq_false w, Bool.false_and, Bool.false_and]
          · rw [dr_sshr1 (cl k) hj, if_pos (by omega), own (1 + j) (by omega), Nat.add_comm 1 j]
        · rw [decide_eq_false y, Bool.and_false, Bool.and_false]
      · rw [pk_un e, hc k hk j hj]
        by_cases y : k < i
        · rw [if_pos y, if_pos (by omega)]
        · rw [if_neg y, if_neg (by omega)]
theorem dr_widen {post : SX → Prop} {D : Nat → Nat → Bool} (hD : ∀ i, i < 16 → ∀ j, j < 32 → bt (cl i) j = D i j)
    (hp : ∀ cl', (∀ i, i < 16 → ∀ j, j < 32 → bt (cl' i) j = dr_H (dr_V D) i j) → post (f, ct, lf, rt, ro, sx, st, mk, cl')) : wpX_widen post (f, ct, lf, rt, ro, sx, st, mk, cl) :=
  ⟨17, dr_wd2 hp 17 0 cl (by omega) (by omega) (fun k hk j hj => by rw [hD k hk j hj, if_neg (by omega)])⟩
theorem dr_en47 {post : Int32 → SX → Prop} {a b : Nat} (ha : a < 3) (hb : b < 3) (HP : dr_RP c L R B T) (HX : dr_RX c L R B T ct lf rt ro)
    (hp : ∀ t x3 cl', t ≤ 9 → (∀ s, s < t → dr_W (dr_cv c L R B T b) (dr_cv c L R B T a) s) → (t < 9 → ¬ dr_W (dr_cv c L R B T b) (dr_cv c L R B T a) t) → x3 + 1 = nI t → post x3 (f, ct, lf, rt, ro, sx, st, mk, cl')) :
    ∀ n t x3 cl, t ≤ 9 → 9 - t < n → x3 + 1 = nI t → (∀ s, s < t → dr_W (dr_cv c L R B T b) (dr_cv c L R B T a) s) →
      (∀ i, i < 16 → ∀ j, j < 32 → bt (cl i) j = dr_D (dr_cv c L R B T b) t i j) → wX_enclosure_47 post (nI a) n x3 f ct lf rt ro sx st mk cl := by
  have hf : ∀ i j, dr_cv c L R B T b i j = true → j < 16 := fun i j e => dr_cv_j HP hb e
  intro n
  induction n with
  | zero => intro t x3 cl h1 h2; omega
  | succ n ih =>
    intro t x3 cl h1 h2 hx hW hD
    rw [wX_enclosure_47]
    dsimp only
    have e8 : 8 ≤ x3 ↔ t = 9 := by
      rcases Nat.eq_zero_or_pos t with z | z
      · subst z
        have : x3 = -1 := (Int32.add_left_inj 1).mp (show x3 + 1 = (-1) + 1 from hx)
        subst this
        exact ⟨fun y => absurd y (by decide), fun y => by omega⟩
      · obtain ⟨d, rfl⟩ : ∃ d, t = d + 1 := ⟨t - 1, by omega⟩
        rw [← nI_1] at hx
        have : x3 = nI d := (Int32.add_left_inj 1).mp hx
        subst this
        show nI 8 ≤ nI d ↔ _
        rw [nI_leI (by decide) (by omega)]
        omega
    refine br_c (fun y => hp t x3 cl h1 hW (fun z => by have := e8.mp y; omega) hx) (fun y => ?_)
    have t9 : t < 9 := by
      rcases Nat.lt_or_ge t 9 with z | z
      · exact z
      · exact absurd (e8.mpr (by omega)) y
    have hz : ∀ i, i < 16 → ∀ j, 16 ≤ j → dr_D (dr_cv c L R B T b) t i j = false := fun i hi j hj => by
      cases e : dr_D (dr_cv c L R B T b) t i j with
      | false => rfl
      | true =>
        have := ((dr_D_t hf t i j hi).mp e).1
        omega
    refine dr_within ha HP HX hD hz (fun w => br_f (by decide) (nm_r hx ?_)) (fun w => br_t rfl (hp t x3 cl h1 hW (fun _ => w) hx))
    refine dr_widen hD (fun cl' hD' => ih (t + 1) (nI t) cl' (by omega) (by omega) (nI_1 t) (fun s hs => ?_) hD')
    rcases Nat.lt_or_ge s t with z | z
    · exact hW s z
    · rw [show s = t by omega]
      exact w
theorem dr_en21 {post : Int32 → SX → Prop} {a b : Nat} (ha : a < 3) (hb : b < 3) (HP : dr_RP c L R B T) (HX : dr_RX c L R B T ct lf rt ro)
    (hp : ∀ t x3 cl', t ≤ 9 → (∀ s, s < t → dr_W (dr_cv c L R B T b) (dr_cv c L R B T a) s) → (t < 9 → ¬ dr_W (dr_cv c L R B T b) (dr_cv c L R B T a) t) → x3 + 1 = nI t → post x3 (f, ct, lf, rt, ro, sx, st, mk, cl')) :
    ∀ n i cl, i ≤ 16 → 16 - i < n → (∀ k, k < i → ∀ j, j < 32 → bt (cl k) j = dr_cv c L R B T b k j) → wX_enclosure_21 post (nI a) (nI b) f n (nI i) ct lf rt ro sx st mk cl := by
  intro n
  induction n with
  | zero => intro i cl h1 h2; omega
  | succ n ih =>
    intro i cl h1 h2 hc
    rw [wX_enclosure_21]
    dsimp only
    rw [nI_clamp (by omega : i < 2 ^ 31)]
    refine pk_le 16 i (fun z => ⟨10, ?_⟩) (fun z => ?_)
    · exact dr_en47 ha hb HP HX hp 10 0 (-1) cl (by omega) (by omega) rfl (fun s hs => by omega) (fun k hk j hj => hc k (by omega) j hj)
    · refine dr_rows hb (by omega) HP HX (fun r hr => ⟨vp_in_nI z (by decide), nm_e (nm_r (nI_1 _) (ih (i + 1) _ (by omega) (by omega) (fun k hk j hj => ?_)))⟩)
      by_cases e : k = i
      · subst e
        rw [pk_us]
        exact hr j hj
      · rw [pk_un e]
        exact hc k (by omega) j hj
end
end
section
/-! ===== Y: enclosure ===== -/
/-- b - 16 -/
def dr_z (b : Nat) : Int32 := nI b - nI 16
theorem dr_z_t {b : Nat} (h : b < 1000) : (dr_z b).toInt = (b : Int) - 16 := pk_sub_toInt (by omega) (by omega)
theorem dr_z_neg {b : Nat} (h : b < 1000) : dr_z b < 0 ↔ b < 16 := by
  rw [Int32.lt_iff_toInt_lt, dr_z_t h, show (0 : Int32).toInt = 0 by decide]
  omega
theorem dr_z_gt {k b : Nat} (hk : k < 1000) (h : b < 1000) : nI k < dr_z b ↔ k + 16 < b := by
  rw [Int32.lt_iff_toInt_lt, dr_z_t h, nI_toInt (by omega)]
  omega
theorem dr_z_1 (b : Nat) : dr_z b + 1 = dr_z (b + 1) := by
  unfold dr_z
  rw [← nI_1 b]
  grind
theorem dr_z_n {b : Nat} (h : 16 ≤ b) : dr_z b = nI (b - 16) := pk_sub h
theorem dr_z_s {j m : Nat} (h : m ≤ 16 + j) : nI j - nI m = dr_z (16 + j - m) := by
  unfold dr_z
  rw [← pk_sub h, ← nI_add]
  grind
section
variable {c L R B T : Nat → Nat} {yc yl yr yb yt ys : Nat → Int32}
theorem dr_ar18 {post : Int32 → Prop} {J5 : Int32 → Prop} {g : Nat → Nat → Bool} (HG : dr_G g ys) {i j m b : Nat} (hi : i < 16) (hj : j < 16) (hm : m ≤ 8) (hb : b < 100)
    (hJ : (∀ x, x < 16 → i ≤ x + m → x ≤ i + m → 16 ≤ b → b < 32 → g x (b - 16) = true) → J5 (dr_z (b + 1)))
    (h0 : ∀ x, x < 16 → i ≤ x + m → x ≤ i + m → 16 ≤ b → b < 32 → g x (b - 16) = false → post 0) :
    ∀ n a, 16 + i ≤ a + m → a ≤ 17 + i + m → 17 + i + m - a < n → (∀ x, x < 16 → x + 16 < a → i ≤ x + m → x ≤ i + m → 16 ≤ b → b < 32 → g x (b - 16) = true) →
      wY_around_18 post J5 (nI i) (nI j) (nI m) (dr_z b) yc yl yr yb yt ys n (dr_z a) := by
  intro n
  induction n with
  | zero => intro a h1 h2 h3; omega
  | succ n ih =>
    intro a h1 h2 h3 hr
    rw [wY_around_18]
    dsimp only
    rw [nI_add]
    refine br_c (fun z => nm_r (dr_z_1 b) (hJ (fun x x1 x2 x3 x4 x5 => hr x x1 ?_ x2 x3 x4 x5))) (fun z => ?_)
    · rw [dr_z_gt (by omega) (by omega)] at z
      omega
    · rw [dr_z_gt (by omega) (by omega)] at z
      have sk : (∀ x, x < 16 → x + 16 = a → 16 ≤ b → b < 32 → g x (b - 16) = true) → wY_around_18 post J5 (nI i) (nI j) (nI m) (dr_z b) yc yl yr yb yt ys n (dr_z (a + 1)) := fun y =>
        ih (a + 1) (by omega) (by omega) (by omega) (fun x x1 x2 x3 x4 x5 x6 => by
          rcases Nat.lt_or_ge (x + 16) a with w | w
          · exact hr x x1 w x3 x4 x5 x6
          · exact y x x1 (by omega) x5 x6)
      refine br_c (fun y => nm_r (dr_z_1 a) (sk (fun x x1 x2 => ?_))) (fun y => ?_)
      · rw [dr_z_neg (by omega)] at y
        omega
      · rw [dr_z_neg (by omega)] at y
        rw [dr_z_n (by omega : 16 ≤ a)]
        have ea : nI (a - 16) + 1 = dr_z (a + 1) := by rw [← dr_z_n (by omega : 16 ≤ a), dr_z_1]
        refine pk_lt 15 (a - 16) (fun w => nm_r ea (sk (fun x x1 x2 => by omega))) (fun w => ?_)
        refine br_c (fun v => nm_r ea (sk (fun x x1 x2 x3 => ?_))) (fun v => ?_)
        · rw [dr_z_neg (by omega)] at v
          omega
        · rw [dr_z_neg (by omega)] at v
          rw [dr_z_n (by omega : 16 ≤ b)]
          refine pk_lt 15 (b - 16) (fun u => nm_r ea ?_) (fun u => ?_)
          · rw [← dr_z_n (by omega : 16 ≤ b)]
            exact sk (fun x x1 x2 x3 x4 => by omega)
          · refine dr_yin HG (nI_1 _) (nI_1 _) (by omega) (by omega) ?_
            rw [dr_pd_in (by omega) (by omega)]
            refine dr_br (fun e => h0 (a - 16) (by omega) (by omega) (by omega) (by omega) (by omega) e) (fun e => nm_r ea ?_)
            rw [← dr_z_n (by omega : 16 ≤ b)]
            refine sk (fun x x1 x2 x3 x4 => ?_)
            rw [show x = a - 16 by omega]
            exact e
/-- all cells of the grid at most m columns and rows from (i, j) are in the set -/
def dr_Ar (g : Nat → Nat → Bool) (m i j : Nat) : Prop := ∀ x y, x < 16 → y < 16 → dr_Nr m x y i j → g x y = true
theorem dr_ar5 {post : Int32 → Prop} {g : Nat → Nat → Bool} (HG : dr_G g ys) {i j m : Nat} (hi : i < 16) (hj : j < 16) (hm : m ≤ 8)
    (p1 : dr_Ar g m i j → post 1) (p0 : ¬ dr_Ar g m i j → post 0) :
    ∀ n b, 16 + j ≤ b + m → b ≤ 17 + j + m → 17 + j + m - b < n → (∀ x y, x < 16 → y < 16 → dr_Nr m x y i j → y + 16 < b → g x y = true) →
      wY_around_5 post (nI i) (nI j) (nI m) yc yl yr yb yt ys n (dr_z b) := by
  intro n
  induction n with
  | zero => intro b h1 h2 h3; omega
  | succ n ih =>
    intro b h1 h2 h3 hr
    rw [wY_around_5]
    dsimp only
    rw [nI_add, dr_z_s (by omega : m ≤ 16 + i)]
    refine br_c (fun z => p1 (fun x y x1 y1 nr => hr x y x1 y1 nr ?_)) (fun z => ?_)
    · rw [dr_z_gt (by omega) (by omega)] at z
      have := nr.2.2.1
      have := nr.2.2.2
      omega
    · rw [dr_z_gt (by omega) (by omega)] at z
      refine nm_e ⟨2 * m + 2, ?_⟩
      refine dr_ar18 HG hi hj hm (by omega) (fun row => ih (b + 1) (by omega) (by omega) (by omega) (fun x y x1 y1 nr yb => ?_)) (fun x x1 x2 x3 x4 x5 e => p0 (fun A => ?_)) (2 * m + 2) (16 + i - m) (by omega) (by omega) (by omega) (fun x x1 x2 x3 => by omega)
      · rcases Nat.lt_or_ge (y + 16) b with w | w
        · exact hr x y x1 y1 nr w
        · have := row x x1 (by have := nr.2.1; omega) nr.1 (by omega) (by omega)
          rw [show b - 16 = y by omega] at this
          exact this
      · have := A x (b - 16) x1 (by omega) ⟨by omega, by omega, by omega, by omega⟩
        rw [e] at this
        exact Bool.noConfusion this
theorem dr_around {post : Int32 → Prop} {g : Nat → Nat → Bool} (HG : dr_G g ys) {i j m : Nat} (hi : i < 16) (hj : j < 16) (hm : m ≤ 8)
    (p1 : dr_Ar g m i j → post 1) (p0 : ¬ dr_Ar g m i j → post 0) : wpY_around post (yc, yl, yr, yb, yt, ys) (nI i) (nI j) (nI m) := by
  refine nm_r (dr_z_s (by omega : m ≤ 16 + j)) ⟨2 * m + 2, ?_⟩
  exact dr_ar5 HG hi hj hm p1 p0 (2 * m + 2) (16 + j - m) (by omega) (by omega) (by omega) (fun x y x1 y1 nr z => by have := nr.2.2.2; omega)
theorem dr_ec2 {post : Int32 → Prop} {g : Nat → Nat → Bool} {b m : Nat} (hb : b < 3) (hm : m ≤ 8) (HP : dr_RP c L R B T) (HY : dr_RY c L R B T yc yl yr yb yt) (HG : dr_G g ys)
    (p1 : (∀ i j, i < 16 → j < 16 → dr_cv c L R B T b i j = true → dr_Ar g m i j) → post 1) (p0 : ¬ (∀ i j, i < 16 → j < 16 → dr_cv c L R B T b i j = true → dr_Ar g m i j) → post 0) :
    ∀ n e, e ≤ 256 → 256 - e < n → (∀ d, d < e → dr_cv c L R B T b (d % 16) (d / 16) = true → dr_Ar g m (d % 16) (d / 16)) →
      wY_encloses_2 post (nI b) (nI m) yc yl yr yb yt ys n (nI e) := by
  intro n
  induction n with
  | zero => intro e h1 h2; omega
  | succ n ih =>
    intro e h1 h2 hr
    rw [wY_encloses_2]
    dsimp only
    have n16 : ¬ (16 : Int32) = 0 := by decide
    have e1 : nI e - nI e / 16 * 16 = nI (e % 16) := pk_rem (d := 16) (by omega) (by omega) (by omega)
    have e2 : nI e / 16 = nI (e / 16) := pk_div (d := 16) (by omega) (by omega) (by omega)
    rw [e1, e2]
    refine pk_le 256 e (fun z => p1 (fun i j hi hj hv => ?_)) (fun z => ⟨n16, n16, ?_⟩)
    · have := hr (16 * j + i) (by omega)
      rw [show (16 * j + i) % 16 = i by omega, show (16 * j + i) / 16 = j by omega] at this
      exact this hv
    · have nx : (dr_cv c L R B T b (e % 16) (e / 16) = true → dr_Ar g m (e % 16) (e / 16)) → wY_encloses_2 post (nI b) (nI m) yc yl yr yb yt ys n (nI (e + 1)) := fun y =>
        ih (e + 1) (by omega) (by omega) (fun d hd => by
          rcases Nat.lt_or_ge d e with w | w
          · exact hr d w
          · rw [show d = e by omega]
            exact y)
      refine dr_has hb (by omega) (by omega) HP HY (dr_br (fun v => nm_r (nI_1 _) (nx (fun w => ?_))) (fun v => ⟨n16, n16, ?_⟩))
      · rw [v] at w
        exact Bool.noConfusion w
      · refine dr_around HG (by omega) (by omega) hm (fun A => br_f (by decide) (nm_r (nI_1 _) (nx (fun _ => A)))) (fun A => br_t rfl (p0 (fun w => A (w _ _ (by omega) (by omega) v))))
theorem dr_yen {post : Int32 → SY → Prop} {g : Nat → Nat → Bool} {b : Nat} (hb : b < 3) (HP : dr_RP c L R B T) (HY : dr_RY c L R B T yc yl yr yb yt) (HG : dr_G g ys)
    (hp : ∀ t r, t ≤ 9 → (∀ s, s < t → dr_W (dr_cv c L R B T b) g s) → (t < 9 → ¬ dr_W (dr_cv c L R B T b) g t) → r + 1 = nI t → post r (yc, yl, yr, yb, yt, ys)) :
    ∀ n t, t ≤ 9 → 9 - t < n → (∀ s, s < t → dr_W (dr_cv c L R B T b) g s) → wY_enclosure_23 post (nI b) yc yl yr yb yt ys n (nI t) := by
  have hf : ∀ i j, dr_cv c L R B T b i j = true → j < 16 := fun i j e => dr_cv_j HP hb e
  intro n
  induction n with
  | zero => intro t h1 h2; omega
  | succ n ih =>
    intro t h1 h2 hW
    rw [wY_enclosure_23]
    dsimp only
    refine pk_lt 8 t (fun z => hp t 8 h1 hW (fun y => by omega) ?_) (fun z => ⟨257, ?_⟩)
    · rw [show t = 9 by omega]
      rfl
    · refine dr_ec2 hb (by omega) HP HY HG (fun A => br_f (by decide) (nm_r (nI_1 _) (ih (t + 1) (by omega) (by omega) (fun s hs => ?_)))) (fun A => br_t rfl (hp t _ h1 hW (fun _ w => A ?_) (dr_sac _))) 257 0 (by omega) (by omega) (fun d hd => by omega)
      · rcases Nat.lt_or_ge s t with w | w
        · exact hW s w
        · rw [show s = t by omega]
          exact (dr_W_t hf t).mpr A
      · exact (dr_W_t hf t).mp w
end
end
section
/-! ===== add, drop ===== -/
def dr_shf {α : Type} (a : Nat → α) (lo hi : Nat) : Nat → α := fun p => if lo ≤ p ∧ p < hi then a (p + 1) else a p
theorem dr_shf_i {α : Type} {a : Nat → α} {lo hi p : Nat} (h1 : lo ≤ p) (h2 : p < hi) : dr_shf a lo hi p = a (p + 1) := if_pos ⟨h1, h2⟩
theorem dr_shf_o {α : Type} {a : Nat → α} {lo hi p : Nat} (h : ¬ (lo ≤ p ∧ p < hi)) : dr_shf a lo hi p = a p := if_neg h
theorem dr_shf_s {a : Nat → Int32} {lo k : Nat} (h : lo ≤ k) : upd (dr_shf a lo k) k (a (k + 1)) = dr_shf a lo (k + 1) := by
  funext p
  by_cases e : p = k
  · subst e
    rw [pk_us, dr_shf_i h (by omega)]
  · rw [pk_un e]
    by_cases z : lo ≤ p ∧ p < k
    · rw [dr_shf_i z.1 z.2, dr_shf_i z.1 (by omega)]
    · rw [dr_shf_o z, dr_shf_o (by omega)]
theorem dr_shf_0 {α : Type} (a : Nat → α) (lo : Nat) : dr_shf a lo lo = a := by
  funext p
  exact dr_shf_o (by omega)
theorem dr_span {post : Int32 → Prop} {u : SX} {a : Nat} (ha : a < 2 ^ 31) (h1 : a / 32 < a % 32 ∧ a % 32 ≤ 16 → post 1) (h0 : ¬ (a / 32 < a % 32 ∧ a % 32 ≤ 16) → post 0) : wpX_isSpan post u (nI a) := by
  obtain ⟨f, ct, lf, rt, ro, sx, st, mk, cl⟩ := u
  unfold wpX_isSpan
  dsimp only
  rw [pk_shrN ha _ 5 (by decide), pk_andN (by omega) 5 (by decide), show 2 ^ 5 = 32 from rfl]
  refine br_t (nI_pos' ha) (nm_e (nm_e (pk_le (a % 32) (a / 32) (fun z => h0 (fun y => by omega)) (fun z => pk_lt 16 (a % 32) (fun y => h0 (fun x => by omega)) (fun y => h1 ⟨z, y⟩)))))
theorem dr_span0 {post : Int32 → Prop} {u : SX} {x : Int32} (h : x < 0) (h0 : post 0) : wpX_isSpan post u x := by
  obtain ⟨f, ct, lf, rt, ro, sx, st, mk, cl⟩ := u
  exact br_f (Int32.not_le.mpr h) h0
section
variable {c L R B T : Nat → Nat} {f : Int32} {ct lf rt ro sx st mk cl : Nat → Int32} {yc yl yr yb yt ys : Nat → Int32}
def dr_ok2 (a b : Nat) : Prop := (a / 32 < a % 32 ∧ a % 32 ≤ 16) ∧ (b / 32 < b % 32 ∧ b % 32 ≤ 16)
theorem dr_xadd {post : Int32 → SX → Prop} {l a b : Nat} (hl : l < 3) (ha : a < 2 ^ 31) (hb : b < 2 ^ 31) (HP : dr_RP c L R B T) (HX : dr_RX c L R B T ct lf rt ro)
    (hbad : ¬ dr_ok2 a b → post (-2) (f, ct, lf, rt, ro, sx, st, mk, cl)) (hful : dr_ok2 a b → c l = 10 → post (-3) (f, ct, lf, rt, ro, sx, st, mk, cl))
    (hgo : dr_ok2 a b → c l < 10 → post (nI (c l + 1)) (f, upd ct l (nI (c l + 1)), upd lf (10 * l + c l) (nI (a / 32)), upd rt (10 * l + c l) (nI (a % 32)),
      upd ro (10 * l + c l) (((1 : Int32) <<< (nI (b % 32) &&& 31)) - ((1 : Int32) <<< (nI (b / 32) &&& 31))), sx, st, mk, cl)) :
    wpX_add post (f, ct, lf, rt, ro, sx, st, mk, cl) (nI l) (nI a) (nI b) := by
  obtain ⟨e1, _⟩ := HX l hl
  obtain ⟨p1, _⟩ := HP l hl
  have v3 : vp_in (nI l) 3 := vp_in_nI hl (by decide)
  unfold wpX_add
  dsimp only
  rw [nI_clamp (by omega : l < 2 ^ 31), e1, dr_10, nI_1]
  refine br_f (dr_lay_n hl).1 (br_f (dr_lay_n hl).2 (dr_span ha (fun s1 => br_f (by decide) ?_) (fun s1 => br_t rfl (hbad (fun z => s1 z.1)))))
  refine dr_span hb (fun s2 => br_f (by decide) ⟨v3, ?_⟩) (fun s2 => br_t rfl (hbad (fun z => s2 z.2)))
  refine pk_lt (c l) 10 (fun z => ⟨v3, nm_e ?_⟩) (fun z => hful ⟨s1, s2⟩ (by omega))
  have v30 : vp_in (nI (10 * l + c l)) 30 := vp_in_nI (by omega) (by decide)
  have hgo := hgo ⟨s1, s2⟩ z
  rw [nI_clamp (by omega : 10 * l + c l < 2 ^ 31), pk_shrN ha _ 5 (by decide), pk_shrN hb _ 5 (by decide), pk_andN (by omega : a < 2 ^ 32) 5 (by decide), pk_andN (by omega : b < 2 ^ 32) 5 (by decide), show 2 ^ 5 = 32 from rfl,
    dr_nar8 (by omega : a / 32 < 32), dr_nar8 (by omega : a % 32 < 32), dr_nar8 (by omega : c l + 1 < 32)]
  refine ⟨v30, nm_e ⟨v30, nm_e ⟨v30, nm_e ⟨v3, v3, nm_e ⟨v3, ?_⟩⟩⟩⟩⟩
  rw [pk_us]
  exact hgo
theorem dr_yadd {post : Int32 → SY → Prop} {l a b : Nat} (hl : l < 3) (ha : a < 2 ^ 31) (hb : b < 2 ^ 31) (HP : dr_RP c L R B T) (HY : dr_RY c L R B T yc yl yr yb yt)
    (hbad : ¬ dr_ok2 a b → post (-2) (yc, yl, yr, yb, yt, ys)) (hful : dr_ok2 a b → c l = 10 → post (-3) (yc, yl, yr, yb, yt, ys))
    (hgo : dr_ok2 a b → c l < 10 → post (nI (c l + 1)) (upd yc l (nI (c l + 1)), upd yl (10 * l + c l) (nI (a / 32)), upd yr (10 * l + c l) (nI (a % 32)),
      upd yb (10 * l + c l) (nI (b / 32)), upd yt (10 * l + c l) (nI (b % 32)), ys)) :
    wpY_add post (yc, yl, yr, yb, yt, ys) (nI l) (nI a) (nI b) := by
  obtain ⟨e1, _⟩ := HY l hl
  obtain ⟨p1, _⟩ := HP l hl
  have v3 : vp_in (nI l) 3 := vp_in_nI hl (by decide)
  have n32 : ¬ (32 : Int32) = 0 := by decide
  have ra : nI a - nI a / 32 * 32 = nI (a % 32) := pk_rem (d := 32) (by omega) (by omega) (by omega)
  have da : nI a / 32 = nI (a / 32) := pk_div (d := 32) (by omega) (by omega) (by omega)
  have rb : nI b - nI b / 32 * 32 = nI (b % 32) := pk_rem (d := 32) (by omega) (by omega) (by omega)
  have db : nI b / 32 = nI (b / 32) := pk_div (d := 32) (by omega) (by omega) (by omega)
  unfold wpY_add
  dsimp only
  rw [ra, da, rb, db, nI_clamp (by omega : l < 2 ^ 31), e1, dr_10, nI_1]
  refine dr_yl1 hl (br_f (by decide) (br_f (nI_pos ha) (br_t (nI_pos' hb) ⟨n32, n32, ?_⟩)))
  refine pk_le (a % 32) (a / 32) (fun z => hbad (fun y => by have := y.1; omega)) (fun z1 => ⟨n32, ?_⟩)
  refine pk_lt 16 (a % 32) (fun z => hbad (fun y => by have := y.1; omega)) (fun z2 => ⟨n32, n32, ?_⟩)
  refine pk_le (b % 32) (b / 32) (fun z => hbad (fun y => by have := y.2; omega)) (fun z3 => ⟨n32, ?_⟩)
  refine pk_le (b % 32) 16 (fun z4 => ⟨v3, ?_⟩) (fun z => hbad (fun y => by have := y.2; omega))
  have ok : dr_ok2 a b := ⟨⟨z1, z2⟩, ⟨z3, z4⟩⟩
  refine pk_eq (c l) 10 (fun z => hful ok z) (fun z => ⟨v3, nm_e ⟨n32, ?_⟩⟩)
  have v30 : vp_in (nI (10 * l + c l)) 30 := vp_in_nI (by omega) (by decide)
  rw [nI_clamp (by omega : 10 * l + c l < 2 ^ 31)]
  refine ⟨v30, nm_e ⟨n32, v30, nm_e ⟨n32, v30, nm_e ⟨n32, v30, nm_e ⟨v3, v3, nm_e ⟨v3, ?_⟩⟩⟩⟩⟩⟩
  rw [pk_us]
  exact hgo ok (by omega)
theorem dr_xdr {post : Int32 → SX → Prop} {l d : Nat} {ct' : Nat → Int32} (hl : l < 3) (hd : c l = d + 1) (HP : dr_RP c L R B T) (HX : dr_RX c L R B T ct lf rt ro) (hc : ct' l = nI d)
    (hp : post (nI d) (f, ct', dr_shf lf (10 * l) (10 * l + d), dr_shf rt (10 * l) (10 * l + d), dr_shf ro (10 * l) (10 * l + d), sx, st, mk, cl)) :
    ∀ n k, k ≤ d → d - k < n → wX_drop_37 post (nI l) f n (nI (10 * l + k)) ct' (dr_shf lf (10 * l) (10 * l + k)) (dr_shf rt (10 * l) (10 * l + k)) (dr_shf ro (10 * l) (10 * l + k)) sx st mk cl := by
  obtain ⟨e1, e2⟩ := HX l hl
  obtain ⟨p1, p2⟩ := HP l hl
  have v3 : vp_in (nI l) 3 := vp_in_nI hl (by decide)
  intro n
  induction n with
  | zero => intro k h1 h2; omega
  | succ n ih =>
    intro k h1 h2
    rw [wX_drop_37]
    dsimp only
    rw [nI_1, nI_clamp (by omega : l < 2 ^ 31), hc, dr_10, nI_clamp (by omega : 10 * l + k < 2 ^ 31), nI_clamp (by omega : 10 * l + k + 1 < 2 ^ 31)]
    refine ⟨v3, pk_le (10 * l + d) (10 * l + k) (fun z => ⟨v3, ?_⟩) (fun z => ?_)⟩
    · have : k = d := by omega
      subst this
      exact hp
    · have a1 : vp_in (nI (10 * l + k + 1)) 30 := vp_in_nI (by omega) (by decide)
      have a0 : vp_in (nI (10 * l + k)) 30 := vp_in_nI (by omega) (by decide)
      obtain ⟨q1, q2, _⟩ := e2 (k + 1) (by omega)
      obtain ⟨r1, r2, _⟩ := p2 (k + 1) (by omega)
      have t1 : vp_nar .byte (lf (10 * l + k + 1)) = lf (10 * l + k + 1) := by
        show vp_nar .byte (lf (10 * l + (k + 1))) = lf (10 * l + (k + 1))
        rw [q1, dr_nar (by omega)]
      have t2 : vp_nar .byte (rt (10 * l + k + 1)) = rt (10 * l + k + 1) := by
        show vp_nar .byte (rt (10 * l + (k + 1))) = rt (10 * l + (k + 1))
        rw [q2, dr_nar (by omega)]
      rw [dr_shf_o (a := lf) (p := 10 * l + k + 1) (by omega), dr_shf_o (a := rt) (p := 10 * l + k + 1) (by omega), dr_shf_o (a := ro) (p := 10 * l + k + 1) (by omega), t1, t2,
        dr_shf_s (by omega), dr_shf_s (by omega), dr_shf_s (by omega)]
      exact ⟨a1, a0, nm_e ⟨a1, a0, nm_e ⟨a1, a0, nm_e (nm_e (ih (k + 1) (by omega) (by omega)))⟩⟩⟩
theorem dr_xdrop {post : Int32 → SX → Prop} {l : Nat} (hl : l < 3) (HP : dr_RP c L R B T) (HX : dr_RX c L R B T ct lf rt ro)
    (h0 : c l = 0 → post (-2) (f, ct, lf, rt, ro, sx, st, mk, cl))
    (hp : ∀ d, c l = d + 1 → post (nI d) (f, upd ct l (nI d), dr_shf lf (10 * l) (10 * l + d), dr_shf rt (10 * l) (10 * l + d), dr_shf ro (10 * l) (10 * l + d), sx, st, mk, cl)) :
    wpX_drop post (f, ct, lf, rt, ro, sx, st, mk, cl) (nI l) := by
  obtain ⟨e1, e2⟩ := HX l hl
  obtain ⟨p1, p2⟩ := HP l hl
  have v3 : vp_in (nI l) 3 := vp_in_nI hl (by decide)
  unfold wpX_drop
  dsimp only
  rw [nI_clamp (by omega : l < 2 ^ 31), e1, dr_10']
  refine br_f (dr_lay_n hl).1 (br_f (dr_lay_n hl).2 ⟨v3, pk_eq (c l) 0 (fun z => h0 z) (fun z => ?_)⟩)
  obtain ⟨d, hd⟩ : ∃ d, c l = d + 1 := ⟨c l - 1, by omega⟩
  rw [hd, nI_pred, dr_nar8 (by omega : d < 32)]
  refine ⟨v3, v3, nm_e (nm_e ⟨d + 1, ?_⟩)⟩
  have K := dr_xdr (post := post) (f := f) (sx := sx) (st := st) (mk := mk) (cl := cl) (ct' := upd ct l (nI d)) hl hd HP HX pk_us (hp d hd) (d + 1) 0 (by omega) (by omega)
  rw [Nat.add_zero (10 * l), dr_shf_0, dr_shf_0, dr_shf_0] at K
  exact K
theorem dr_ydr {post : Int32 → SY → Prop} {l d : Nat} (hl : l < 3) (hd : c l = d + 1) (HY : dr_RY c L R B T yc yl yr yb yt)
    (hp : post (nI d) (upd yc l (nI d), dr_shf yl (10 * l) (10 * l + 9), dr_shf yr (10 * l) (10 * l + 9), dr_shf yb (10 * l) (10 * l + 9), dr_shf yt (10 * l) (10 * l + 9), ys)) :
    ∀ n k, k ≤ 9 → 9 - k < n → wY_drop_25 post (nI l) n (nI (10 * l + k)) yc (dr_shf yl (10 * l) (10 * l + k)) (dr_shf yr (10 * l) (10 * l + k)) (dr_shf yb (10 * l) (10 * l + k)) (dr_shf yt (10 * l) (10 * l + k)) ys := by
  obtain ⟨e1, e2⟩ := HY l hl
  have v3 : vp_in (nI l) 3 := vp_in_nI hl (by decide)
  intro n
  induction n with
  | zero => intro k h1 h2; omega
  | succ n ih =>
    intro k h1 h2
    rw [wY_drop_25]
    dsimp only
    have e9 : 10 * nI l + 9 = nI (10 * l + 9) := dr_10 l 9
    rw [nI_1, nI_clamp (by omega : l < 2 ^ 31), e1, hd, nI_pred, e9, nI_clamp (by omega : 10 * l + k < 2 ^ 31), nI_clamp (by omega : 10 * l + k + 1 < 2 ^ 31)]
    refine pk_le (10 * l + 9) (10 * l + k) (fun z => ⟨v3, v3, nm_e ⟨v3, ?_⟩⟩) (fun z => ?_)
    · have : k = 9 := by omega
      subst this
      rw [pk_us]
      exact hp
    · have a1 : vp_in (nI (10 * l + k + 1)) 30 := vp_in_nI (by omega) (by decide)
      have a0 : vp_in (nI (10 * l + k)) 30 := vp_in_nI (by omega) (by decide)
      rw [dr_shf_o (a := yl) (p := 10 * l + k + 1) (by omega), dr_shf_o (a := yr) (p := 10 * l + k + 1) (by omega), dr_shf_o (a := yb) (p := 10 * l + k + 1) (by omega), dr_shf_o (a := yt) (p := 10 * l + k + 1) (by omega),
        dr_shf_s (by omega), dr_shf_s (by omega), dr_shf_s (by omega), dr_shf_s (by omega)]
      exact ⟨a1, a0, nm_e ⟨a1, a0, nm_e ⟨a1, a0, nm_e ⟨a1, a0, nm_e (nm_e (ih (k + 1) (by omega) (by omega)))⟩⟩⟩⟩
theorem dr_ydrop {post : Int32 → SY → Prop} {l : Nat} (hl : l < 3) (HP : dr_RP c L R B T) (HY : dr_RY c L R B T yc yl yr yb yt)
    (h0 : c l = 0 → post (-2) (yc, yl, yr, yb, yt, ys))
    (hp : ∀ d, c l = d + 1 → post (nI d) (upd yc l (nI d), dr_shf yl (10 * l) (10 * l + 9), dr_shf yr (10 * l) (10 * l + 9), dr_shf yb (10 * l) (10 * l + 9), dr_shf yt (10 * l) (10 * l + 9), ys)) :
    wpY_drop post (yc, yl, yr, yb, yt, ys) (nI l) := by
  obtain ⟨e1, e2⟩ := HY l hl
  obtain ⟨p1, p2⟩ := HP l hl
  have v3 : vp_in (nI l) 3 := vp_in_nI hl (by decide)
  unfold wpY_drop
  dsimp only
  rw [nI_clamp (by omega : l < 2 ^ 31), e1, dr_10']
  refine dr_yl1 hl (br_f (by decide) ⟨v3, pk_eq (c l) 0 (fun z => h0 z) (fun z => ?_)⟩)
  obtain ⟨d, hd⟩ : ∃ d, c l = d + 1 := ⟨c l - 1, by omega⟩
  refine nm_e ⟨10, ?_⟩
  have K := dr_ydr (post := post) (ys := ys) hl hd HY (hp d hd) 10 0 (by omega) (by omega)
  rw [Nat.add_zero (10 * l), dr_shf_0, dr_shf_0, dr_shf_0, dr_shf_0] at K
  exact K
end
/-! ===== the relation behind add, drop ===== -/
def dr_pt (a : Nat → Nat) (k x : Nat) : Nat → Nat := fun p => if p = k then x else a p
theorem dr_pt_s {a : Nat → Nat} {k x : Nat} : dr_pt a k x k = x := if_pos rfl
theorem dr_pt_n {a : Nat → Nat} {k x p : Nat} (h : p ≠ k) : dr_pt a k x p = a p := if_neg h
section
variable {c L R B T : Nat → Nat} {ct lf rt ro : Nat → Int32} {yc yl yr yb yt : Nat → Int32}
theorem dr_addP {l a b : Nat} (hl : l < 3) (hc : c l < 10) (ok : dr_ok2 a b) (HP : dr_RP c L R B T) :
    dr_RP (dr_pt c l (c l + 1)) (dr_pt L (10 * l + c l) (a / 32)) (dr_pt R (10 * l + c l) (a % 32)) (dr_pt B (10 * l + c l) (b / 32)) (dr_pt T (10 * l + c l) (b % 32)) := by
  obtain ⟨⟨o1, o2⟩, o3, o4⟩ := ok
  intro l' hl'
  obtain ⟨p1, p2⟩ := HP l' hl'
  by_cases e : l' = l
  · subst e
    rw [dr_pt_s]
    refine ⟨by omega, fun k hk => ?_⟩
    by_cases ek : k = c l'
    · subst ek
      rw [dr_pt_s, dr_pt_s, dr_pt_s, dr_pt_s]
      exact ⟨o1, o2, o3, o4⟩
    · rw [dr_pt_n (by omega), dr_pt_n (by omega), dr_pt_n (by omega), dr_pt_n (by omega)]
      exact p2 k (by omega)
  · rw [dr_pt_n e]
    refine ⟨p1, fun k hk => ?_⟩
    rw [dr_pt_n (by omega), dr_pt_n (by omega), dr_pt_n (by omega), dr_pt_n (by omega)]
    exact p2 k hk
theorem dr_addX {l a b : Nat} (hl : l < 3) (hc : c l < 10) (ok : dr_ok2 a b) (HP : dr_RP c L R B T) (HX : dr_RX c L R B T ct lf rt ro) :
    dr_RX (dr_pt c l (c l + 1)) (dr_pt L (10 * l + c l) (a / 32)) (dr_pt R (10 * l + c l) (a % 32)) (dr_pt B (10 * l + c l) (b / 32)) (dr_pt T (10 * l + c l) (b % 32))
      (upd ct l (nI (c l + 1))) (upd lf (10 * l + c l) (nI (a / 32))) (upd rt (10 * l + c l) (nI (a % 32)))
      (upd ro (10 * l + c l) (((1 : Int32) <<< (nI (b % 32) &&& 31)) - ((1 : Int32) <<< (nI (b / 32) &&& 31)))) := by
  obtain ⟨⟨o1, o2⟩, o3, o4⟩ := ok
  intro l' hl'
  obtain ⟨p1, p2⟩ := HX l' hl'
  have q1 := (HP l' hl').1
  by_cases e : l' = l
  · subst e
    rw [dr_pt_s, pk_us]
    refine ⟨rfl, fun k hk => ?_⟩
    by_cases ek : k = c l'
    · subst ek
      rw [dr_pt_s, dr_pt_s, dr_pt_s, dr_pt_s, pk_us, pk_us, pk_us]
      exact ⟨rfl, rfl, fun j hj => dr_mask (b % 32) (by omega) (b / 32) o3 j hj⟩
    · rw [dr_pt_n (by omega), dr_pt_n (by omega), dr_pt_n (by omega), dr_pt_n (by omega), pk_un (by omega), pk_un (by omega), pk_un (by omega)]
      exact p2 k (by omega)
  · rw [dr_pt_n e, pk_un e]
    refine ⟨p1, fun k hk => ?_⟩
    rw [dr_pt_n (by omega), dr_pt_n (by omega), dr_pt_n (by omega), dr_pt_n (by omega), pk_un (by omega), pk_un (by omega), pk_un (by omega)]
    exact p2 k hk
theorem dr_addY {l a b : Nat} (hl : l < 3) (hc : c l < 10) (ok : dr_ok2 a b) (HP : dr_RP c L R B T) (HY : dr_RY c L R B T yc yl yr yb yt) :
    dr_RY (dr_pt c l (c l + 1)) (dr_pt L (10 * l + c l) (a / 32)) (dr_pt R (10 * l + c l) (a % 32)) (dr_pt B (10 * l + c l) (b / 32)) (dr_pt T (10 * l + c l) (b % 32))
      (upd yc l (nI (c l + 1))) (upd yl (10 * l + c l) (nI (a / 32))) (upd yr (10 * l + c l) (nI (a % 32))) (upd yb (10 * l + c l) (nI (b / 32))) (upd yt (10 * l + c l) (nI (b % 32))) := by
  intro l' hl'
  obtain ⟨p1, p2⟩ := HY l' hl'
  have q1 := (HP l' hl').1
  by_cases e : l' = l
  · subst e
    rw [dr_pt_s, pk_us]
    refine ⟨rfl, fun k hk => ?_⟩
    by_cases ek : k = c l'
    · subst ek
      rw [dr_pt_s, dr_pt_s, dr_pt_s, dr_pt_s, pk_us, pk_us, pk_us, pk_us]
      exact ⟨rfl, rfl, rfl, rfl⟩
    · rw [dr_pt_n (by omega), dr_pt_n (by omega), dr_pt_n (by omega), dr_pt_n (by omega), pk_un (by omega), pk_un (by omega), pk_un (by omega), pk_un (by omega)]
      exact p2 k (by omega)
  · rw [dr_pt_n e, pk_un e]
    refine ⟨p1, fun k hk => ?_⟩
    rw [dr_pt_n (by omega), dr_pt_n (by omega), dr_pt_n (by omega), dr_pt_n (by omega), pk_un (by omega), pk_un (by omega), pk_un (by omega), pk_un (by omega)]
    exact p2 k hk
theorem dr_drP {l d : Nat} (hl : l < 3) (hd : c l = d + 1) (HP : dr_RP c L R B T) :
    dr_RP (dr_pt c l d) (dr_shf L (10 * l) (10 * l + 9)) (dr_shf R (10 * l) (10 * l + 9)) (dr_shf B (10 * l) (10 * l + 9)) (dr_shf T (10 * l) (10 * l + 9)) := by
  intro l' hl'
  obtain ⟨p1, p2⟩ := HP l' hl'
  by_cases e : l' = l
  · subst e
    rw [dr_pt_s]
    refine ⟨by omega, fun k hk => ?_⟩
    rw [dr_shf_i (by omega) (by omega), dr_shf_i (by omega) (by omega), dr_shf_i (by omega) (by omega), dr_shf_i (by omega) (by omega)]
    exact p2 (k + 1) (by omega)
  · rw [dr_pt_n e]
    refine ⟨p1, fun k hk => ?_⟩
    rw [dr_shf_o (by omega), dr_shf_o (by omega), dr_shf_o (by omega), dr_shf_o (by omega)]
    exact p2 k hk
theorem dr_drX {l d : Nat} (hl : l < 3) (hd : c l = d + 1) (HP : dr_RP c L R B T) (HX : dr_RX c L R B T ct lf rt ro) :
    dr_RX (dr_pt c l d) (dr_shf L (10 * l) (10 * l + 9)) (dr_shf R (10 * l) (10 * l + 9)) (dr_shf B (10 * l) (10 * l + 9)) (dr_shf T (10 * l) (10 * l + 9))
      (upd ct l (nI d)) (dr_shf lf (10 * l) (10 * l + d)) (dr_shf rt (10 * l) (10 * l + d)) (dr_shf ro (10 * l) (10 * l + d)) := by
  have d9 := (HP l hl).1
  intro l' hl'
  obtain ⟨p1, p2⟩ := HX l' hl'
  have q1 := (HP l' hl').1
  by_cases e : l' = l
  · subst e
    rw [dr_pt_s, pk_us]
    refine ⟨rfl, fun k hk => ?_⟩
    rw [dr_shf_i (a := L) (by omega) (by omega), dr_shf_i (a := R) (by omega) (by omega), dr_shf_i (a := B) (by omega) (by omega), dr_shf_i (a := T) (by omega) (by omega),
      dr_shf_i (a := lf) (by omega) (by omega), dr_shf_i (a := rt) (by omega) (by omega), dr_shf_i (a := ro) (by omega) (by omega)]
    exact p2 (k + 1) (by omega)
  · rw [dr_pt_n e, pk_un e]
    refine ⟨p1, fun k hk => ?_⟩
    rw [dr_shf_o (a := L) (by omega), dr_shf_o (a := R) (by omega), dr_shf_o (a := B) (by omega), dr_shf_o (a := T) (by omega), dr_shf_o (a := lf) (by omega), dr_shf_o (a := rt) (by omega), dr_shf_o (a := ro) (by omega)]
    exact p2 k hk
theorem dr_drY {l d : Nat} (hl : l < 3) (hd : c l = d + 1) (HP : dr_RP c L R B T) (HY : dr_RY c L R B T yc yl yr yb yt) :
    dr_RY (dr_pt c l d) (dr_shf L (10 * l) (10 * l + 9)) (dr_shf R (10 * l) (10 * l + 9)) (dr_shf B (10 * l) (10 * l + 9)) (dr_shf T (10 * l) (10 * l + 9))
      (upd yc l (nI d)) (dr_shf yl (10 * l) (10 * l + 9)) (dr_shf yr (10 * l) (10 * l + 9)) (dr_shf yb (10 * l) (10 * l + 9)) (dr_shf yt (10 * l) (10 * l + 9)) := by
  have d9 := (HP l hl).1
  intro l' hl'
  obtain ⟨p1, p2⟩ := HY l' hl'
  have q1 := (HP l' hl').1
  by_cases e : l' = l
  · subst e
    rw [dr_pt_s, pk_us]
    refine ⟨rfl, fun k hk => ?_⟩
    rw [dr_shf_i (a := L) (by omega) (by omega), dr_shf_i (a := R) (by omega) (by omega), dr_shf_i (a := B) (by omega) (by omega), dr_shf_i (a := T) (by omega) (by omega),
      dr_shf_i (a := yl) (by omega) (by omega), dr_shf_i (a := yr) (by omega) (by omega), dr_shf_i (a := yb) (by omega) (by omega), dr_shf_i (a := yt) (by omega) (by omega)]
    exact p2 (k + 1) (by omega)
  · rw [dr_pt_n e, pk_un e]
    refine ⟨p1, fun k hk => ?_⟩
    rw [dr_shf_o (a := L) (by omega), dr_shf_o (a := R) (by omega), dr_shf_o (a := B) (by omega), dr_shf_o (a := T) (by omega), dr_shf_o (a := yl) (by omega), dr_shf_o (a := yr) (by omega), dr_shf_o (a := yb) (by omega), dr_shf_o (a := yt) (by omega)]
    exact p2 k hk
end
end
section
/-- the two hold the same rectangles: counts, sides; the component the rows as a set of bits -/
def i_Rel (_ : Nat) (u : SX) (v : SY) : Prop := ∃ c L R B T : Nat → Nat, dr_RP c L R B T ∧ dr_RX c L R B T u.2.1 u.2.2.1 u.2.2.2.1 u.2.2.2.2.1 ∧ dr_RY c L R B T v.1 v.2.1 v.2.2.1 v.2.2.2.1 v.2.2.2.2.1
theorem dr_el {k : Nat} {u : SX} {v : SY} {P : SX → SY → Prop} (I : i_Rel k u v)
    (h : ∀ (c L R B T : Nat → Nat) (f : Int32) (ct lf rt ro sx st mk cl yc yl yr yb yt ys : Nat → Int32), dr_RP c L R B T → dr_RX c L R B T ct lf rt ro → dr_RY c L R B T yc yl yr yb yt →
      P (f, ct, lf, rt, ro, sx, st, mk, cl) (yc, yl, yr, yb, yt, ys)) : P u v := by
  obtain ⟨f, ct, lf, rt, ro, sx, st, mk, cl⟩ := u
  obtain ⟨yc, yl, yr, yb, yt, ys⟩ := v
  obtain ⟨c, L, R, B, T, HP, HX, HY⟩ := I
  exact h c L R B T f ct lf rt ro sx st mk cl yc yl yr yb yt ys HP HX HY
theorem dr_in {k : Nat} {c L R B T : Nat → Nat} {f : Int32} {ct lf rt ro sx st mk cl yc yl yr yb yt ys : Nat → Int32} (HP : dr_RP c L R B T) (HX : dr_RX c L R B T ct lf rt ro) (HY : dr_RY c L R B T yc yl yr yb yt) :
    i_Rel k (f, ct, lf, rt, ro, sx, st, mk, cl) (yc, yl, yr, yb, yt, ys) := ⟨c, L, R, B, T, HP, HX, HY⟩
theorem i_up {k : Nat} {u : SX} {v : SY} (h : i_Rel k u v) : i_Rel (k + 4) u v := h
theorem i_vc0 : wpX_init (fun u => wpY_init (fun v => i_Rel 0 u v)) := by
  unfold wpX_init wpY_init
  refine dr_in (c := fun _ => 0) (L := fun _ => 0) (R := fun _ => 0) (B := fun _ => 0) (T := fun _ => 0) (fun l _ => ⟨Nat.zero_le 10, fun k hk => ?_⟩) (fun l _ => ⟨rfl, fun k hk => ?_⟩) (fun l _ => ⟨rfl, fun k hk => ?_⟩)
  · exact absurd hk (Nat.not_lt_zero k)
  · exact absurd hk (Nat.not_lt_zero k)
  · exact absurd hk (Nat.not_lt_zero k)
theorem i_vc_add {k : Nat} {u : SX} {v : SY} (I : i_Rel k u v) (hk : k + 4 ≤ 2048) (v1 : Int32) (v2 : Int32) (v3 : Int32) : wpX_add (fun r u' => wpY_add (fun r' v' => r' = r ∧ i_Rel (k + 4) u' v') v v1 v2 v3) u v1 v2 v3 := by
  refine dr_el (P := fun u v => wpX_add (fun r u' => wpY_add (fun r' v' => r' = r ∧ i_Rel (k + 4) u' v') v v1 v2 v3) u v1 v2 v3) I ?_
  intro c L R B T f ct lf rt ro sx st mk cl yc yl yr yb yt ys HP HX HY
  have IR : i_Rel (k + 4) (f, ct, lf, rt, ro, sx, st, mk, cl) (yc, yl, yr, yb, yt, ys) := dr_in HP HX HY
  rcases dr_lay v1 with b1 | ⟨l, hl, rfl⟩
  · have Y : wpY_add (fun r' v' => r' = -2 ∧ i_Rel (k + 4) (f, ct, lf, rt, ro, sx, st, mk, cl) v') (yc, yl, yr, yb, yt, ys) v1 v2 v3 := by
      unfold wpY_add
      dsimp only
      exact dr_yl0 b1 (br_t rfl ⟨rfl, IR⟩)
    unfold wpX_add
    dsimp only
    rcases b1 with z | ⟨y, z⟩
    · exact br_t z Y
    · exact br_f y (br_t z Y)
  · by_cases n2 : v2 < 0
    · unfold wpX_add
      dsimp only
      refine br_f (dr_lay_n hl).1 (br_f (dr_lay_n hl).2 (dr_span0 n2 (br_t rfl ?_)))
      unfold wpY_add
      dsimp only
      exact dr_yl1 hl (br_f (by decide) (br_t n2 ⟨rfl, IR⟩))
    · by_cases n3 : v3 < 0
      · have Y : wpY_add (fun r' v' => r' = -2 ∧ i_Rel (k + 4) (f, ct, lf, rt, ro, sx, st, mk, cl) v') (yc, yl, yr, yb, yt, ys) (nI l) v2 v3 := by
          unfold wpY_add
          dsimp only
          exact dr_yl1 hl (br_f (by decide) (br_f n2 (br_f (Int32.not_le.mpr n3) ⟨rfl, IR⟩)))
        obtain ⟨a, ha, rfl⟩ := nI_of n2
        unfold wpX_add
        dsimp only
        exact br_f (dr_lay_n hl).1 (br_f (dr_lay_n hl).2 (dr_span ha (fun _ => br_f (by decide) (dr_span0 n3 (br_t rfl Y))) (fun _ => br_t rfl Y)))
      · obtain ⟨a, ha, rfl⟩ := nI_of n2
        obtain ⟨b, hb, rfl⟩ := nI_of n3
        refine dr_xadd hl ha hb HP HX (fun nok => ?_) (fun ok e => ?_) (fun ok e => ?_)
        · exact dr_yadd hl ha hb HP HY (fun _ => ⟨rfl, IR⟩) (fun ok _ => absurd ok nok) (fun ok _ => absurd ok nok)
        · exact dr_yadd hl ha hb HP HY (fun nok => absurd ok nok) (fun _ _ => ⟨rfl, IR⟩) (fun _ e' => by omega)
        · exact dr_yadd hl ha hb HP HY (fun nok => absurd ok nok) (fun _ e' => by omega) (fun _ _ => ⟨rfl, dr_in (dr_addP hl e ok HP) (dr_addX hl e ok HP HX) (dr_addY hl e ok HP HY)⟩)
theorem i_vc_drop {k : Nat} {u : SX} {v : SY} (I : i_Rel k u v) (hk : k + 4 ≤ 2048) (v1 : Int32) : wpX_drop (fun r u' => wpY_drop (fun r' v' => r' = r ∧ i_Rel (k + 4) u' v') v v1) u v1 := by
  refine dr_el (P := fun u v => wpX_drop (fun r u' => wpY_drop (fun r' v' => r' = r ∧ i_Rel (k + 4) u' v') v v1) u v1) I ?_
  intro c L R B T f ct lf rt ro sx st mk cl yc yl yr yb yt ys HP HX HY
  have IR : i_Rel (k + 4) (f, ct, lf, rt, ro, sx, st, mk, cl) (yc, yl, yr, yb, yt, ys) := dr_in HP HX HY
  rcases dr_lay v1 with b1 | ⟨l, hl, rfl⟩
  · have Y : wpY_drop (fun r' v' => r' = -2 ∧ i_Rel (k + 4) (f, ct, lf, rt, ro, sx, st, mk, cl) v') (yc, yl, yr, yb, yt, ys) v1 := by
      unfold wpY_drop
      dsimp only
      exact dr_yl0 b1 (br_t rfl ⟨rfl, IR⟩)
    unfold wpX_drop
    dsimp only
    rcases b1 with z | ⟨y, z⟩
    · exact br_t z Y
    · exact br_f y (br_t z Y)
  · refine dr_xdrop hl HP HX (fun e => ?_) (fun d e => ?_)
    · exact dr_ydrop hl HP HY (fun _ => ⟨rfl, IR⟩) (fun d e' => by omega)
    · refine dr_ydrop hl HP HY (fun e' => by omega) (fun d' e' => ?_)
      have : d' = d := by omega
      subst this
      exact ⟨rfl, dr_in (dr_drP hl e HP) (dr_drX hl e HP HX) (dr_drY hl e HP HY)⟩
theorem i_vc_covers {k : Nat} {u : SX} {v : SY} (I : i_Rel k u v) (hk : k + 4 ≤ 2048) (v1 : Int32) (v2 : Int32) (v3 : Int32) : wpX_covers (fun r => wpY_covers (fun r' => r' = r ∧ i_Rel (k + 4) u v) v v1 v2 v3) u v1 v2 v3 := by
  refine dr_el (P := fun u v => wpX_covers (fun r => wpY_covers (fun r' => r' = r ∧ i_Rel (k + 4) u v) v v1 v2 v3) u v1 v2 v3) I ?_
  intro c L R B T f ct lf rt ro sx st mk cl yc yl yr yb yt ys HP HX HY
  have IR : i_Rel (k + 4) (f, ct, lf, rt, ro, sx, st, mk, cl) (yc, yl, yr, yb, yt, ys) := dr_in HP HX HY
  unfold wpX_covers wpY_covers
  dsimp only
  rcases dr_lay v1 with b1 | ⟨l, hl, rfl⟩
  · exact dr_xl0 b1 (br_t rfl (dr_yl0 b1 (br_t rfl ⟨rfl, IR⟩)))
  · refine dr_xl1 hl (br_f (by decide) ?_)
    rcases dr_rg v2 (n := 15) (by decide) with z | ⟨y, z⟩ | ⟨i, hi, rfl⟩
    · exact br_t z (dr_yl1 hl (br_f (by decide) (br_t z ⟨rfl, IR⟩)))
    · exact br_f y (br_t z (dr_yl1 hl (br_f (by decide) (br_f y (br_t z ⟨rfl, IR⟩)))))
    · have i0 : ¬ nI i < 0 := nI_pos (by omega)
      have i1 : ¬ 15 < nI i := nI_nlt (a := 15) (b := i) (by omega) (by decide)
      refine br_f i0 (br_f i1 ?_)
      rcases dr_rg v3 (n := 15) (by decide) with z | ⟨y, z⟩ | ⟨j, hj, rfl⟩
      · exact br_t z (dr_yl1 hl (br_f (by decide) (br_f i0 (br_f i1 (br_t z ⟨rfl, IR⟩)))))
      · exact br_f y (br_f (Int32.not_le.mpr z) (dr_yl1 hl (br_f (by decide) (br_f i0 (br_f i1 (br_f y (br_t z ⟨rfl, IR⟩)))))))
      · have j0 : ¬ nI j < 0 := nI_pos (by omega)
        have j1 : ¬ 15 < nI j := nI_nlt (a := 15) (b := j) (by omega) (by decide)
        refine br_f j0 (br_t (Int32.not_lt.mp j1) (dr_rows hl (by omega) HP HX (fun r hr => dr_brb r (by omega) (fun e => ?_) (fun e => ?_))))
        · rw [hr j (by omega)] at e
          refine dr_yl1 hl (br_f (by decide) (br_f i0 (br_f i1 (br_f j0 (br_f j1 (dr_has hl (by omega) (by omega) HP HY ?_))))))
          rw [e]
          exact br_t rfl ⟨rfl, IR⟩
        · rw [hr j (by omega)] at e
          refine dr_yl1 hl (br_f (by decide) (br_f i0 (br_f i1 (br_f j0 (br_f j1 (dr_has hl (by omega) (by omega) HP HY ?_))))))
          rw [e]
          exact br_f (by decide) ⟨rfl, IR⟩
end
section
theorem i_vc_area {k : Nat} {u : SX} {v : SY} (I : i_Rel k u v) (hk : k + 4 ≤ 2048) (v1 : Int32) (v2 : Int32) (v3 : Int32) : wpX_area (fun r u' => wpY_area (fun r' v' => r' = r ∧ i_Rel (k + 4) u' v') v v1 v2 v3) u v1 v2 v3 := by
  refine dr_el (P := fun u v => wpX_area (fun r u' => wpY_area (fun r' v' => r' = r ∧ i_Rel (k + 4) u' v') v v1 v2 v3) u v1 v2 v3) I ?_
  intro c L R B T f ct lf rt ro sx st mk cl yc yl yr yb yt ys HP HX HY
  have IR : ∀ f sx st mk cl ys, i_Rel (k + 4) (f, ct, lf, rt, ro, sx, st, mk, cl) (yc, yl, yr, yb, yt, ys) := fun f sx st mk cl ys => dr_in HP HX HY
  unfold wpX_area wpY_area
  dsimp only
  rcases dr_lay v1 with b1 | ⟨h, hh, rfl⟩
  · rcases b1 with z | ⟨y, z⟩
    · exact br_t z (dr_cmb0 (Or.inl (Or.inl z)) (br_t rfl ⟨rfl, IR _ _ _ _ _ _⟩))
    · exact br_f y (br_t z (dr_cmb0 (Or.inl (Or.inr ⟨y, z⟩)) (br_t rfl ⟨rfl, IR _ _ _ _ _ _⟩)))
  · refine br_f (dr_lay_n hh).1 (br_f (dr_lay_n hh).2 ?_)
    rcases dr_lay v2 with b2 | ⟨a, ha, rfl⟩
    · exact dr_xl0 b2 (br_t rfl (dr_cmb0 (Or.inr (Or.inl b2)) (br_t rfl ⟨rfl, IR _ _ _ _ _ _⟩)))
    · refine dr_xl1 ha (br_f (by decide) ?_)
      rcases dr_lay v3 with b3 | ⟨b, hb, rfl⟩
      · exact dr_xl0 b3 (br_t rfl (dr_cmb0 (Or.inr (Or.inr b3)) (br_t rfl ⟨rfl, IR _ _ _ _ _ _⟩)))
      · refine dr_xl1 hb (br_f (by decide) (dr_sweep hh ha hb HP HX (fun S X sx' st' H => ?_)))
        refine dr_xarea H ?_
        refine dr_cmb hh ha hb HP HY (fun ys' HG => br_f (by decide) ?_)
        exact dr_yarea HG ⟨rfl, IR _ _ _ _ _ _⟩
theorem i_vc_outline {k : Nat} {u : SX} {v : SY} (I : i_Rel k u v) (hk : k + 4 ≤ 2048) (v1 : Int32) (v2 : Int32) (v3 : Int32) : wpX_outline (fun r u' => wpY_outline (fun r' v' => r' = r ∧ i_Rel (k + 4) u' v') v v1 v2 v3) u v1 v2 v3 := by
  refine dr_el (P := fun u v => wpX_outline (fun r u' => wpY_outline (fun r' v' => r' = r ∧ i_Rel (k + 4) u' v') v v1 v2 v3) u v1 v2 v3) I ?_
  intro c L R B T f ct lf rt ro sx st mk cl yc yl yr yb yt ys HP HX HY
  have IR : ∀ f sx st mk cl ys, i_Rel (k + 4) (f, ct, lf, rt, ro, sx, st, mk, cl) (yc, yl, yr, yb, yt, ys) := fun f sx st mk cl ys => dr_in HP HX HY
  unfold wpX_outline wpY_outline
  dsimp only
  rcases dr_lay v1 with b1 | ⟨h, hh, rfl⟩
  · rcases b1 with z | ⟨y, z⟩
    · exact br_t z (dr_cmb0 (Or.inl (Or.inl z)) (br_t rfl ⟨rfl, IR _ _ _ _ _ _⟩))
    · exact br_f y (br_t z (dr_cmb0 (Or.inl (Or.inr ⟨y, z⟩)) (br_t rfl ⟨rfl, IR _ _ _ _ _ _⟩)))
  · refine br_f (dr_lay_n hh).1 (br_f (dr_lay_n hh).2 ?_)
    rcases dr_lay v2 with b2 | ⟨a, ha, rfl⟩
    · exact dr_xl0 b2 (br_t rfl (dr_cmb0 (Or.inr (Or.inl b2)) (br_t rfl ⟨rfl, IR _ _ _ _ _ _⟩)))
    · refine dr_xl1 ha (br_f (by decide) ?_)
      rcases dr_lay v3 with b3 | ⟨b, hb, rfl⟩
      · exact dr_xl0 b3 (br_t rfl (dr_cmb0 (Or.inr (Or.inr b3)) (br_t rfl ⟨rfl, IR _ _ _ _ _ _⟩)))
      · refine dr_xl1 hb (br_f (by decide) (dr_sweep hh ha hb HP HX (fun S X sx' st' H => ?_)))
        have x0 : ∀ j, j < 32 → bt 0 j = dr_pd (dr_g c L R B T h a b) (X 0) (j + 1) := fun j _ => by rw [b_0, H.1.1, dr_pd_out (by omega)]
        refine ⟨S + 1, dr_xout_lp H ?_ (S + 1) 0 0 (by omega) (by omega) x0⟩
        refine dr_cmb hh ha hb HP HY (fun ys' HG => br_f (by decide) ?_)
        exact dr_yout HG ⟨rfl, IR _ _ _ _ _ _⟩
theorem i_vc_corners {k : Nat} {u : SX} {v : SY} (I : i_Rel k u v) (hk : k + 4 ≤ 2048) (v1 : Int32) (v2 : Int32) (v3 : Int32) : wpX_corners (fun r u' => wpY_corners (fun r' v' => r' = r ∧ i_Rel (k + 4) u' v') v v1 v2 v3) u v1 v2 v3 := by
  refine dr_el (P := fun u v => wpX_corners (fun r u' => wpY_corners (fun r' v' => r' = r ∧ i_Rel (k + 4) u' v') v v1 v2 v3) u v1 v2 v3) I ?_
  intro c L R B T f ct lf rt ro sx st mk cl yc yl yr yb yt ys HP HX HY
  have IR : ∀ f sx st mk cl ys, i_Rel (k + 4) (f, ct, lf, rt, ro, sx, st, mk, cl) (yc, yl, yr, yb, yt, ys) := fun f sx st mk cl ys => dr_in HP HX HY
  unfold wpX_corners wpY_corners
  dsimp only
  rcases dr_lay v1 with b1 | ⟨h, hh, rfl⟩
  · rcases b1 with z | ⟨y, z⟩
    · exact br_t z (dr_cmb0 (Or.inl (Or.inl z)) (br_t rfl ⟨rfl, IR _ _ _ _ _ _⟩))
    · exact br_f y (br_t z (dr_cmb0 (Or.inl (Or.inr ⟨y, z⟩)) (br_t rfl ⟨rfl, IR _ _ _ _ _ _⟩)))
  · refine br_f (dr_lay_n hh).1 (br_f (dr_lay_n hh).2 ?_)
    rcases dr_lay v2 with b2 | ⟨a, ha, rfl⟩
    · exact dr_xl0 b2 (br_t rfl (dr_cmb0 (Or.inr (Or.inl b2)) (br_t rfl ⟨rfl, IR _ _ _ _ _ _⟩)))
    · refine dr_xl1 ha (br_f (by decide) ?_)
      rcases dr_lay v3 with b3 | ⟨b, hb, rfl⟩
      · exact dr_xl0 b3 (br_t rfl (dr_cmb0 (Or.inr (Or.inr b3)) (br_t rfl ⟨rfl, IR _ _ _ _ _ _⟩)))
      · refine dr_xl1 hb (br_f (by decide) (dr_sweep hh ha hb HP HX (fun S X sx' st' H => ?_)))
        have x0 : ∀ j, j < 32 → bt 0 j = dr_pd (dr_g c L R B T h a b) (X 0) (j + 1) := fun j _ => by rw [b_0, H.1.1, dr_pd_out (by omega)]
        refine ⟨S + 2, dr_xcor_lp H ?_ (S + 2) 0 0 (by omega) (by omega) (fun _ => x0)⟩
        refine dr_cmb hh ha hb HP HY (fun ys' HG => br_f (by decide) ?_)
        exact dr_ycor HG ⟨rfl, IR _ _ _ _ _ _⟩
theorem dr_n1lt {x : Int32} (h : ¬ x < 1) : ¬ x < 0 := fun z => h (Int32.lt_trans z (by decide))
theorem dr_g_ao {c L R B T : Nat → Nat} {a : Nat} : dr_g c L R B T 0 a a = dr_g c L R B T 1 a a := by
  funext i j
  unfold dr_g dr_op
  rw [if_pos rfl, if_neg (by decide), if_pos rfl, Bool.and_self, Bool.or_self]
theorem dr_g_cv {c L R B T : Nat → Nat} {a : Nat} : dr_g c L R B T 0 a a = dr_cv c L R B T a := by
  funext i j
  unfold dr_g dr_op
  rw [if_pos rfl, Bool.and_self]
theorem i_vc_thin {k : Nat} {u : SX} {v : SY} (I : i_Rel k u v) (hk : k + 4 ≤ 2048) (v1 : Int32) (v2 : Int32) : wpX_thin (fun r u' => wpY_thin (fun r' v' => r' = r ∧ i_Rel (k + 4) u' v') v v1 v2) u v1 v2 := by
  refine dr_el (P := fun u v => wpX_thin (fun r u' => wpY_thin (fun r' v' => r' = r ∧ i_Rel (k + 4) u' v') v v1 v2) u v1 v2) I ?_
  intro c L R B T f ct lf rt ro sx st mk cl yc yl yr yb yt ys HP HX HY
  have IR : ∀ f sx st mk cl ys, i_Rel (k + 4) (f, ct, lf, rt, ro, sx, st, mk, cl) (yc, yl, yr, yb, yt, ys) := fun f sx st mk cl ys => dr_in HP HX HY
  unfold wpX_thin wpY_thin
  dsimp only
  rcases dr_lay v1 with b1 | ⟨l, hl, rfl⟩
  · exact dr_xl0 b1 (br_t rfl (dr_cmb0 (Or.inr (Or.inl b1)) (br_t rfl ⟨rfl, IR _ _ _ _ _ _⟩)))
  · refine dr_xl1 hl (br_f (by decide) ?_)
    by_cases w1 : v2 < 1
    · refine br_t w1 (dr_cmb (h := 0) (by omega) hl hl HP HY (fun ys' HG => br_f (by decide) ?_))
      exact br_t w1 ⟨rfl, IR _ _ _ _ _ _⟩
    · by_cases w8 : v2 ≤ 8
      · obtain ⟨w, hw, rfl⟩ : ∃ w : Nat, w ≤ 8 ∧ v2 = nI w := nI_of2 (M := 8) (n := 8) (by decide) (dr_n1lt w1) w8
        refine br_f w1 (br_t w8 (dr_sweep (h := 1) (by omega) hl hl HP HX (fun S X sx' st' H => ?_)))
        refine ⟨S + 1, dr_xthin H (by omega) (fun mk' => ?_) (S + 1) 0 _ (by omega) (by omega) (fun i hi => by omega)⟩
        refine dr_cmb (h := 0) (by omega) hl hl HP HY (fun ys' HG => br_f (by decide) (br_f w1 (br_t w8 ?_)))
        rw [dr_g_ao] at HG
        exact dr_ythin HG (by omega) ⟨rfl, IR _ _ _ _ _ _⟩
      · refine br_f w1 (br_f w8 (dr_cmb (h := 0) (by omega) hl hl HP HY (fun ys' HG => br_f (by decide) ?_)))
        exact br_f w1 (br_f w8 ⟨rfl, IR _ _ _ _ _ _⟩)
theorem i_vc_gaps {k : Nat} {u : SX} {v : SY} (I : i_Rel k u v) (hk : k + 4 ≤ 2048) (v1 : Int32) (v2 : Int32) : wpX_gaps (fun r u' => wpY_gaps (fun r' v' => r' = r ∧ i_Rel (k + 4) u' v') v v1 v2) u v1 v2 := by
  refine dr_el (P := fun u v => wpX_gaps (fun r u' => wpY_gaps (fun r' v' => r' = r ∧ i_Rel (k + 4) u' v') v v1 v2) u v1 v2) I ?_
  intro c L R B T f ct lf rt ro sx st mk cl yc yl yr yb yt ys HP HX HY
  have IR : ∀ f sx st mk cl ys, i_Rel (k + 4) (f, ct, lf, rt, ro, sx, st, mk, cl) (yc, yl, yr, yb, yt, ys) := fun f sx st mk cl ys => dr_in HP HX HY
  unfold wpX_gaps wpY_gaps
  dsimp only
  rcases dr_lay v1 with b1 | ⟨l, hl, rfl⟩
  · exact dr_xl0 b1 (br_t rfl (dr_cmb0 (Or.inr (Or.inl b1)) (br_t rfl ⟨rfl, IR _ _ _ _ _ _⟩)))
  · refine dr_xl1 hl (br_f (by decide) ?_)
    by_cases w1 : v2 < 1
    · refine br_t w1 (dr_cmb (h := 0) (by omega) hl hl HP HY (fun ys' HG => br_f (by decide) ?_))
      exact br_t w1 ⟨rfl, IR _ _ _ _ _ _⟩
    · by_cases w8 : v2 ≤ 8
      · obtain ⟨w, hw, rfl⟩ : ∃ w : Nat, w ≤ 8 ∧ v2 = nI w := nI_of2 (M := 8) (n := 8) (by decide) (dr_n1lt w1) w8
        refine br_f w1 (br_t w8 (dr_sweep (h := 1) (by omega) hl hl HP HX (fun S X sx' st' H => ?_)))
        refine ⟨S + 1, dr_xgaps H (by omega) (fun mk' => ?_) (S + 1) 0 _ (by omega) (by omega) (fun i hi => by omega)⟩
        refine dr_cmb (h := 0) (by omega) hl hl HP HY (fun ys' HG => br_f (by decide) (br_f w1 (br_t w8 ?_)))
        rw [dr_g_ao] at HG
        exact dr_ygaps HG (by omega) ⟨rfl, IR _ _ _ _ _ _⟩
      · refine br_f w1 (br_f w8 (dr_cmb (h := 0) (by omega) hl hl HP HY (fun ys' HG => br_f (by decide) ?_)))
        exact br_f w1 (br_f w8 ⟨rfl, IR _ _ _ _ _ _⟩)
theorem i_vc_enclosure {k : Nat} {u : SX} {v : SY} (I : i_Rel k u v) (hk : k + 4 ≤ 2048) (v1 : Int32) (v2 : Int32) : wpX_enclosure (fun r u' => wpY_enclosure (fun r' v' => r' = r ∧ i_Rel (k + 4) u' v') v v1 v2) u v1 v2 := by
  refine dr_el (P := fun u v => wpX_enclosure (fun r u' => wpY_enclosure (fun r' v' => r' = r ∧ i_Rel (k + 4) u' v') v v1 v2) u v1 v2) I ?_
  intro c L R B T f ct lf rt ro sx st mk cl yc yl yr yb yt ys HP HX HY
  have IR : ∀ f sx st mk cl ys, i_Rel (k + 4) (f, ct, lf, rt, ro, sx, st, mk, cl) (yc, yl, yr, yb, yt, ys) := fun f sx st mk cl ys => dr_in HP HX HY
  unfold wpX_enclosure wpY_enclosure
  dsimp only
  rcases dr_lay v1 with b1 | ⟨a, ha, rfl⟩
  · refine dr_xl0 b1 (br_t rfl ?_)
    rcases dr_lay v2 with b2 | ⟨b, hb, rfl⟩
    · exact dr_yl0 b2 (br_t rfl ⟨rfl, IR _ _ _ _ _ _⟩)
    · exact dr_yl1 hb (br_f (by decide) (dr_cmb0 (Or.inr (Or.inl b1)) (br_t rfl ⟨rfl, IR _ _ _ _ _ _⟩)))
  · refine dr_xl1 ha (br_f (by decide) ?_)
    rcases dr_lay v2 with b2 | ⟨b, hb, rfl⟩
    · exact dr_xl0 b2 (br_t rfl (dr_yl0 b2 (br_t rfl ⟨rfl, IR _ _ _ _ _ _⟩)))
    · refine dr_xl1 hb (br_f (by decide) ⟨17, dr_en21 ha hb HP HX (fun t x3 cl' t9 tW tN tx => ?_) 17 0 cl (by omega) (by omega) (fun i hi => by omega)⟩)
      refine dr_yl1 hb (br_f (by decide) (dr_cmb (h := 0) (by omega) ha ha HP HY (fun ys' HG => br_f (by decide) ⟨10, ?_⟩)))
      rw [dr_g_cv] at HG
      refine dr_yen hb HP HY HG (fun t' r t9' tW' tN' tx' => ⟨?_, IR _ _ _ _ _ _⟩) 10 0 (by omega) (by omega) (fun s hs => by omega)
      have e : t' = t := by
        rcases Nat.lt_trichotomy t' t with z | z | z
        · exact absurd (tW t' z) (tN' (by omega))
        · exact z
        · exact absurd (tW' t z) (tN (by omega))
      subst e
      exact (Int32.add_left_inj 1).mp (tx'.trans tx.symm)
end
