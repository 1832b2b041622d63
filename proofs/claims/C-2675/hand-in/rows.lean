section
/-! pure rows to paste: stores, nI and lN arithmetic, masks, shifts, narrowing, branches by naturals (pk_le, pk_lt, pk_eq), loops (lp1 .. lp16: the measure of the state; rp1 ..: recursion), negatives. Take what you need -/
theorem pk_us {f : Nat → Int32} {k : Nat} {x : Int32} : upd f k x k = x := if_pos rfl
theorem pk_un {f : Nat → Int32} {k j : Nat} {x : Int32} (h : j ≠ k) : upd f k x j = f j := if_neg h
theorem pk_uLs {f : Nat → Int64} {k : Nat} {x : Int64} : vp_updL f k x k = x := if_pos rfl
theorem pk_uLn {f : Nat → Int64} {k j : Nat} {x : Int64} (h : j ≠ k) : vp_updL f k x j = f j := if_neg h
theorem pk_sub {a b : Nat} (h : b ≤ a) : nI a - nI b = nI (a - b) := by
  obtain ⟨c, rfl⟩ : ∃ c, a = c + b := ⟨a - b, by omega⟩
  rw [← nI_add, Int32.add_sub_cancel, Nat.add_sub_cancel]
theorem pk_m1 (n : Nat) : nI (n + 1) + (-1) = nI n := by
  rw [← nI_1, Int32.add_assoc, show (1 : Int32) + (-1) = 0 from rfl, Int32.add_zero]
theorem pk_mul (a b : Nat) : nI a * nI b = nI (a * b) := (Int32.ofNat_mul a b).symm
theorem pk_div {a d : Nat} (ha : a < 2 ^ 31) (h0 : 0 < d) (hd : d < 2 ^ 31) : nI a / nI d = nI (a / d) := by
  apply Int32.toInt_inj.mp
  rw [lg_idiv_nonneg (by rw [nI_toInt ha]; omega) (by rw [nI_toInt hd]; omega), nI_toInt ha, nI_toInt hd, nI_toInt (Nat.lt_of_le_of_lt (Nat.div_le_self a d) ha)]
  first | rfl | exact (Int.natCast_ediv _ _).symm
theorem pk_rem {a d : Nat} (ha : a < 2 ^ 31) (h0 : 0 < d) (hd : d < 2 ^ 31) : nI a - nI a / nI d * nI d = nI (a % d) := by
  rw [pk_div ha h0 hd, pk_mul, pk_sub (Nat.div_mul_le_self a d)]
  exact congrArg nI (by have := Nat.div_add_mod' a d; omega)
theorem pk_sub_toInt {a b : Nat} (ha : a < 2 ^ 30) (hb : b < 2 ^ 30) : (nI a - nI b).toInt = (a : Int) - b := by
  rw [Int32.toInt_sub, nI_toInt (by omega), nI_toInt (by omega)]
  exact Int.bmod_eq_of_le (by omega) (by omega)
theorem pk_sneg {a b : Nat} (hb : b < 2 ^ 30) (h : a < b) : nI a - nI b < 0 := by
  rw [Int32.lt_iff_toInt_lt, pk_sub_toInt (by omega) hb, show (0 : Int32).toInt = 0 from by decide]
  omega
theorem pk_ix (x : Int32) {n : Nat} (hn : n < 2 ^ 31) : x < 0 ∨ nI n ≤ x ∨ ∃ j : Nat, j < n ∧ x = nI j := by
  by_cases h : x < 0
  · exact Or.inl h
  · obtain ⟨j, hj, rfl⟩ := nI_of h
    by_cases h2 : j < n
    · exact Or.inr (Or.inr ⟨j, h2, rfl⟩)
    · exact Or.inr (Or.inl (nI_le (by omega) hj))
theorem pk_le {x y : Int32} {A B : Prop} (a b : Nat) (f : a ≤ b → A) (g : b < a → B) (hx : x = nI a := by rfl) (hy : y = nI b := by rfl) (ha : a < 2 ^ 31 := by omega) (hb : b < 2 ^ 31 := by omega) : (x ≤ y → A) ∧ (¬ x ≤ y → B) := by
  subst hx hy
  rw [nI_leI ha hb]
  exact ⟨f, fun z => g (by omega)⟩
theorem pk_lt {x y : Int32} {A B : Prop} (a b : Nat) (f : a < b → A) (g : b ≤ a → B) (hx : x = nI a := by rfl) (hy : y = nI b := by rfl) (ha : a < 2 ^ 31 := by omega) (hb : b < 2 ^ 31 := by omega) : (x < y → A) ∧ (¬ x < y → B) := by
  subst hx hy
  rw [nI_ltI ha hb]
  exact ⟨f, fun z => g (by omega)⟩
theorem pk_eq {x y : Int32} {A B : Prop} (a b : Nat) (f : a = b → A) (g : a ≠ b → B) (hx : x = nI a := by rfl) (hy : y = nI b := by rfl) (ha : a < 2 ^ 31 := by omega) (hb : b < 2 ^ 31 := by omega) : (x = y → A) ∧ (¬ x = y → B) := by
  subst hx hy
  rw [nI_eq ha hb]
  exact ⟨f, g⟩
theorem pk_in {x : Int32} (n N : Nat) (h : n < N) (hx : x = nI n := by rfl) (hN : N < 2 ^ 31 := by omega) : vp_in x N := by
  subst hx
  exact vp_in_nI h hN
theorem pk_cl {x : Int32} (n : Nat) (hx : x = nI n := by rfl) (h : n < 2 ^ 31 := by omega) : x.toNatClampNeg = n := by
  subst hx
  exact nI_clamp h
theorem pk_tn {n : Nat} (h : n < 2 ^ 32) : (nI n).toBitVec.toNat = n := Nat.mod_eq_of_lt h
theorem pk_and (x : Int32) {m : Int32} (k : Nat) (hm : m.toBitVec.toNat = 2 ^ k - 1) : x &&& m = nI (x.toBitVec.toNat % 2 ^ k) := by
  apply Int32.toBitVec_inj.mp
  apply BitVec.eq_of_toNat_eq
  rw [Int32.toBitVec_and, BitVec.toNat_and, hm, Nat.and_two_pow_sub_one_eq_mod]
  show _ = (BitVec.ofNat 32 _).toNat
  rw [BitVec.toNat_ofNat]
  exact (Nat.mod_eq_of_lt (Nat.lt_of_le_of_lt (Nat.mod_le _ _) x.toBitVec.isLt)).symm
theorem pk_andN {n : Nat} (h : n < 2 ^ 32) {m : Int32} (k : Nat) (hm : m.toBitVec.toNat = 2 ^ k - 1) : nI n &&& m = nI (n % 2 ^ k) := by
  rw [pk_and _ k hm, pk_tn h]
theorem pk_andE (x : Int32) {m : Int32} (k : Nat) (hm : m.toBitVec.toNat = 2 ^ k - 1) : ∃ j : Nat, j < 2 ^ k ∧ x &&& m = nI j := ⟨_, Nat.mod_lt _ (Nat.two_pow_pos k), pk_and x k hm⟩
theorem pk_andIn (x : Int32) {m : Int32} (k : Nat) (hm : m.toBitVec.toNat = 2 ^ k - 1) (hk : k ≤ 30) : vp_in (x &&& m) (2 ^ k) := by
  obtain ⟨j, hj, e⟩ := pk_andE x k hm
  rw [e]
  exact vp_in_nI hj (Nat.lt_of_le_of_lt (Nat.pow_le_pow_right (by decide) hk) (by decide))
theorem pk_shl (a s : Int32) (k : Nat) (hs : (s.toBitVec.smod 32).toNat = k) : (a <<< s).toBitVec.toNat = a.toBitVec.toNat * 2 ^ k % 2 ^ 32 := by
  show (a.toBitVec <<< (s.toBitVec.smod 32).toNat).toNat = _
  rw [hs, BitVec.toNat_shiftLeft, Nat.shiftLeft_eq]
theorem pk_shlN {n : Nat} (s : Int32) (k : Nat) (hs : (s.toBitVec.smod 32).toNat = k) (h : n * 2 ^ k < 2 ^ 32) : nI n <<< s = nI (n * 2 ^ k) := by
  apply Int32.toBitVec_inj.mp
  apply BitVec.eq_of_toNat_eq
  have hn : n < 2 ^ 32 := Nat.lt_of_le_of_lt (Nat.le_mul_of_pos_right n (Nat.two_pow_pos k)) h
  rw [pk_shl _ _ k hs, pk_tn hn, pk_tn h, Nat.mod_eq_of_lt h]
theorem pk_shr (a s : Int32) (k : Nat) (hs : (s.toBitVec.smod 32).toNat = k) : (a >>> s).toInt = a.toInt >>> k := by
  show (a.toBitVec.sshiftRight (s.toBitVec.smod 32).toNat).toInt = _
  rw [hs, BitVec.toInt_sshiftRight]
  rfl
theorem pk_shrN {n : Nat} (h : n < 2 ^ 31) (s : Int32) (k : Nat) (hs : (s.toBitVec.smod 32).toNat = k) : nI n >>> s = nI (n / 2 ^ k) := by
  apply Int32.toInt_inj.mp
  have h2 : n / 2 ^ k ≤ n := Nat.div_le_self _ _
  rw [pk_shr _ _ k hs, nI_toInt h, nI_toInt (by omega), Int.shiftRight_eq_div_pow]
  rfl
theorem pk_ushr (x s : Int32) (k : Nat) (hs : ((s.toUInt32 &&& Int32.toUInt32 31).toBitVec % 32).toNat = k) : (x.toUInt32 >>> (s.toUInt32 &&& Int32.toUInt32 31)).toInt32.toBitVec.toNat = x.toBitVec.toNat / 2 ^ k := by
  have e : (x.toUInt32 >>> (s.toUInt32 &&& Int32.toUInt32 31)).toInt32.toBitVec = x.toBitVec >>> k := by
    rw [← hs]
    exact UInt32.toBitVec_shiftRight _ _
  rw [e, BitVec.toNat_ushiftRight, Nat.shiftRight_eq_div_pow]
theorem pk_ushrN {n : Nat} (hn : n < 2 ^ 32) (s : Int32) (k : Nat) (hs : ((s.toUInt32 &&& Int32.toUInt32 31).toBitVec % 32).toNat = k) : ((nI n).toUInt32 >>> (s.toUInt32 &&& Int32.toUInt32 31)).toInt32 = nI (n / 2 ^ k) := by
  apply Int32.toBitVec_inj.mp
  apply BitVec.eq_of_toNat_eq
  rw [pk_ushr _ s k hs, pk_tn hn, pk_tn (Nat.lt_of_le_of_lt (Nat.div_le_self _ _) hn)]
theorem pk_nb (z : Int32) : narrow .byte (.int z.toInt8.toInt32) = .int z.toInt8.toInt32 := congrArg Value.int (by simp)
theorem pk_ns (z : Int32) : narrow .short (.int z.toInt16.toInt32) = .int z.toInt16.toInt32 := congrArg Value.int (by simp)
theorem pk_fb (r : Int32) : fits .byte (.int r.toInt8.toInt32) = true := by
  have ⟨a, b⟩ := lg_i2b_range r
  have h1 : (-128 : Int32).toInt = -128 := by decide
  have h2 : (127 : Int32).toInt = 127 := by decide
  simp only [fits, Bool.and_eq_true, decide_eq_true_eq, Int32.le_iff_toInt_le, h1, h2]
  omega
theorem pk_vb (z : Int32) : vp_nar .byte z.toInt8.toInt32 = z.toInt8.toInt32 := by rw [vp_nar_byte]; simp
def sb_b (c : Nat) : Int32 := (nI c).toInt8.toInt32
theorem sb_byte : ∀ c, c < 256 → sb_b c &&& 255 = nI c ∧ ((nI c).toUInt32 % 65536).toInt32 = nI c ∧ nI c ≤ 255 := by decide +kernel
/-! ===== Int32 by its bits: bt x i ===== -/
def bt (x : Int32) (i : Nat) : Bool := x.toBitVec.getLsbD i
theorem b_ext {x y : Int32} (h : ∀ i, i < 32 → bt x i = bt y i) : x = y := Int32.toBitVec_inj.mp (BitVec.eq_of_getLsbD_eq (fun i hi => h i hi))
theorem b_or (x y : Int32) (i : Nat) : bt (x ||| y) i = (bt x i || bt y i) := by unfold bt; rw [Int32.toBitVec_or, BitVec.getLsbD_or]
theorem b_and (x y : Int32) (i : Nat) : bt (x &&& y) i = (bt x i && bt y i) := by unfold bt; rw [Int32.toBitVec_and, BitVec.getLsbD_and]
theorem b_xor (x y : Int32) (i : Nat) : bt (x ^^^ y) i = (bt x i ^^ bt y i) := by unfold bt; rw [Int32.toBitVec_xor, BitVec.getLsbD_xor]
theorem b_big {x : Int32} {i : Nat} (h : 32 ≤ i) : bt x i = false := BitVec.getLsbD_of_ge _ _ h
theorem b_255 (i : Nat) : bt 255 i = decide (i < 8) := by
  rcases Nat.lt_or_ge i 32 with h | h
  · exact (by decide +kernel : ∀ i, i < 32 → bt 255 i = decide (i < 8)) i h
  · rw [b_big h, decide_eq_false (by omega)]
theorem b_65535 (i : Nat) : bt 65535 i = decide (i < 16) := by
  rcases Nat.lt_or_ge i 32 with h | h
  · exact (by decide +kernel : ∀ i, i < 32 → bt 65535 i = decide (i < 16)) i h
  · rw [b_big h, decide_eq_false (by omega)]
theorem b_m1 : ∀ i, i < 32 → bt (-1) i = true := by decide +kernel
theorem b_0 (i : Nat) : bt 0 i = false := BitVec.getLsbD_zero
theorem s_l : ∀ n, n < 32 → ((nI n &&& 31).toBitVec.smod 32).toNat = n := by decide +kernel
theorem s_u : ∀ n, n < 32 → (((nI n).toUInt32 &&& Int32.toUInt32 31).toBitVec % 32).toNat = n := by decide +kernel
theorem b_shl (n : Nat) (hn : n < 32) (x : Int32) {i : Nat} (hi : i < 32) : bt (x <<< (nI n &&& 31)) i = (decide (n ≤ i) && bt x (i - n)) := by
  unfold bt
  rw [Int32.toBitVec_shiftLeft]
  show (x.toBitVec <<< ((nI n &&& 31).toBitVec.smod 32).toNat).getLsbD i = _
  rw [s_l n hn, BitVec.getLsbD_shiftLeft]
  rcases Nat.lt_or_ge i n with h | h
  · simp [h, Nat.not_le.mpr h]
  · simp [hi, h, Nat.not_lt.mpr h]
theorem b_ushr (n : Nat) (hn : n < 32) (x : Int32) (i : Nat) : bt ((x.toUInt32 >>> ((nI n).toUInt32 &&& Int32.toUInt32 31)).toInt32) i = bt x (n + i) := by
  show (x.toUInt32 >>> ((nI n).toUInt32 &&& Int32.toUInt32 31)).toBitVec.getLsbD i = x.toUInt32.toBitVec.getLsbD (n + i)
  rw [UInt32.toBitVec_shiftRight]
  show (x.toUInt32.toBitVec >>> (((nI n).toUInt32 &&& Int32.toUInt32 31).toBitVec % 32).toNat).getLsbD i = _
  rw [s_u n hn, BitVec.getLsbD_ushiftRight]
theorem b_sshr (n : Nat) (hn : n < 32) (x : Int32) {i : Nat} (hi : i < 32) : bt (x >>> (nI n &&& 31)) i = if n + i < 32 then bt x (n + i) else bt x 31 := by
  unfold bt
  rw [Int32.toBitVec_shiftRight]
  show (x.toBitVec.sshiftRight ((nI n &&& 31).toBitVec.smod 32).toNat).getLsbD i = _
  rw [s_l n hn, BitVec.getLsbD_sshiftRight, BitVec.msb_eq_getLsbD_last]
  simp [hi]
theorem b_shl8 (x : Int32) {i : Nat} (hi : i < 32) : bt (x <<< ((8 : Int32) &&& 31)) i = (decide (8 ≤ i) && bt x (i - 8)) := b_shl 8 (by omega) x hi
theorem b_shl16 (x : Int32) {i : Nat} (hi : i < 32) : bt (x <<< ((16 : Int32) &&& 31)) i = (decide (16 ≤ i) && bt x (i - 16)) := b_shl 16 (by omega) x hi
theorem b_shl24 (x : Int32) {i : Nat} (hi : i < 32) : bt (x <<< ((24 : Int32) &&& 31)) i = (decide (24 ≤ i) && bt x (i - 24)) := b_shl 24 (by omega) x hi
theorem b_sshr8 (x : Int32) {i : Nat} (hi : i < 32) : bt (x >>> ((8 : Int32) &&& 31)) i = if 8 + i < 32 then bt x (8 + i) else bt x 31 := b_sshr 8 (by omega) x hi
/-! ===== nI under and, xor, >>>, one bit, 65535 ===== -/
theorem nx_and (a b : Nat) : nI a &&& nI b = nI (a &&& b) := by
  apply Int32.toBitVec_inj.1
  show BitVec.ofNat 32 a &&& BitVec.ofNat 32 b = BitVec.ofNat 32 (a &&& b)
  apply BitVec.eq_of_getLsbD_eq
  intro i hi
  simp [hi]
theorem nx_xor (a b : Nat) : nI a ^^^ nI b = nI (a ^^^ b) := by
  apply Int32.toBitVec_inj.1
  show BitVec.ofNat 32 a ^^^ BitVec.ofNat 32 b = BitVec.ofNat 32 (a ^^^ b)
  apply BitVec.eq_of_getLsbD_eq
  intro i hi
  simp [hi]
theorem bp_b (x : Int32) : x.toInt8.toInt32 &&& 255 = x &&& 255 := by
  apply Int32.toBitVec_inj.mp
  rw [Int32.toBitVec_and, Int32.toBitVec_and, Int8.toBitVec_toInt32, Int32.toBitVec_toInt8]
  apply BitVec.eq_of_getLsbD_eq
  intro i hi
  rw [BitVec.getLsbD_and, BitVec.getLsbD_and]
  have hm : ∀ i < 32, 8 ≤ i → (255 : Int32).toBitVec.getLsbD i = false := by decide
  rcases Nat.lt_or_ge i 8 with z | z
  · rw [BitVec.getLsbD_signExtend, BitVec.getLsbD_signExtend, if_pos z, if_pos hi]
    simp only [z, hi, decide_true, Bool.true_and]
  · rw [hm i hi z]; simp
/-! ===== the char cast and 65535 ===== -/
end
section
/-! code words as naturals: bits, checks, ones, encode, decode -/
def sm_bt (c p : Nat) : Nat := (c >>> p) &&& 1
def sm_pw (p : Nat) : Bool := (p &&& (p - 1)) == 0
def sm_nx : Nat → Nat
  | 0 => 0
  | k + 1 => if sm_pw k = true then sm_nx k else sm_nx k + 1
def sm_ck (c : Nat) : Nat → Nat
  | 0 => 0
  | k + 1 => sm_ck c k ^^^ (sm_bt c k * k)
def sm_on (c : Nat) : Nat → Nat
  | 0 => 0
  | k + 1 => sm_on c k + sm_bt c k
def sm_e1 (v : Nat) : Nat → Nat
  | 0 => 0
  | k + 1 => if sm_pw k = true then sm_e1 v k else sm_e1 v k ||| (sm_bt v (sm_nx k) <<< k)
def sm_e2 (c ch : Nat) : Nat → Nat
  | 0 => c
  | j + 1 => sm_e2 c ch j ||| (sm_bt ch j <<< (2 ^ j))
def sm_d (c : Nat) : Nat → Nat
  | 0 => 0
  | k + 1 => if sm_pw k = true then sm_d c k else sm_d c k ||| (sm_bt c k <<< sm_nx k)
def sm_J (P : Nat) : Nat := if P = 22 then 5 else 4
def sm_c2 (P v : Nat) : Nat := sm_e2 (sm_e1 v P) (sm_ck (sm_e1 v P) P) (sm_J P)
def sm_enc (P v : Nat) : Nat := sm_c2 P v ||| (sm_on (sm_c2 P v) P &&& 1)
def sm_good (P e v : Nat) : Bool := (sm_ck e P == 0) && ((sm_on e P % 2 == 0) && (sm_d e P == v))
def sm_all (P b : Nat) : Nat → Bool
  | 0 => true
  | n + 1 => sm_good P (sm_enc P (b + n)) (b + n) && sm_all P b n
theorem sm_all_e {P b : Nat} : ∀ n, sm_all P b n = true → ∀ v, b ≤ v → v < b + n → sm_good P (sm_enc P v) v = true := by
  intro n
  induction n with
  | zero => intro _ v h1 h2; omega
  | succ n ih =>
    intro h v h1 h2
    have h' : (sm_good P (sm_enc P (b + n)) (b + n) && sm_all P b n) = true := h
    rw [Bool.and_eq_true] at h'
    by_cases z : v = b + n
    · rw [z]; exact h'.1
    · exact ih h'.2 v h1 (by omega)
theorem sm_k13 : sm_all 13 0 256 = true := by decide +kernel
theorem sm_k22_0 : sm_all 22 0 1024 = true := by decide +kernel
theorem sm_k22_1 : sm_all 22 1024 1024 = true := by decide +kernel
theorem sm_k22_2 : sm_all 22 2048 1024 = true := by decide +kernel
theorem sm_k22_3 : sm_all 22 3072 1024 = true := by decide +kernel
theorem sm_k22_4 : sm_all 22 4096 1024 = true := by decide +kernel
theorem sm_k22_5 : sm_all 22 5120 1024 = true := by decide +kernel
theorem sm_k22_6 : sm_all 22 6144 1024 = true := by decide +kernel
theorem sm_k22_7 : sm_all 22 7168 1024 = true := by decide +kernel
theorem sm_k22_8 : sm_all 22 8192 1024 = true := by decide +kernel
theorem sm_k22_9 : sm_all 22 9216 1024 = true := by decide +kernel
theorem sm_k22_10 : sm_all 22 10240 1024 = true := by decide +kernel
theorem sm_k22_11 : sm_all 22 11264 1024 = true := by decide +kernel
theorem sm_k22_12 : sm_all 22 12288 1024 = true := by decide +kernel
theorem sm_k22_13 : sm_all 22 13312 1024 = true := by decide +kernel
theorem sm_k22_14 : sm_all 22 14336 1024 = true := by decide +kernel
theorem sm_k22_15 : sm_all 22 15360 1024 = true := by decide +kernel
end
section
/-! values that fit, one flipped bit, correct -/
def sm_okv (P v : Nat) : Prop := (P = 22 ∧ v < 16384) ∨ (P = 13 ∧ v < 256)
theorem sm_okP {P v : Nat} (h : sm_okv P v) : P < 32 ∧ 3 ≤ P := by
  rcases h with ⟨h, _⟩ | ⟨h, _⟩ <;> omega
theorem sm_k22 {v : Nat} (h : v < 16384) : sm_good 22 (sm_enc 22 v) v = true := by
  by_cases h0 : v < 1024
  · exact sm_all_e 1024 sm_k22_0 v (by omega) (by omega)
  by_cases h1 : v < 2048
  · exact sm_all_e 1024 sm_k22_1 v (by omega) (by omega)
  by_cases h2 : v < 3072
  · exact sm_all_e 1024 sm_k22_2 v (by omega) (by omega)
  by_cases h3 : v < 4096
  · exact sm_all_e 1024 sm_k22_3 v (by omega) (by omega)
  by_cases h4 : v < 5120
  · exact sm_all_e 1024 sm_k22_4 v (by omega) (by omega)
  by_cases h5 : v < 6144
  · exact sm_all_e 1024 sm_k22_5 v (by omega) (by omega)
  by_cases h6 : v < 7168
  · exact sm_all_e 1024 sm_k22_6 v (by omega) (by omega)
  by_cases h7 : v < 8192
  · exact sm_all_e 1024 sm_k22_7 v (by omega) (by omega)
  by_cases h8 : v < 9216
  · exact sm_all_e 1024 sm_k22_8 v (by omega) (by omega)
  by_cases h9 : v < 10240
  · exact sm_all_e 1024 sm_k22_9 v (by omega) (by omega)
  by_cases h10 : v < 11264
  · exact sm_all_e 1024 sm_k22_10 v (by omega) (by omega)
  by_cases h11 : v < 12288
  · exact sm_all_e 1024 sm_k22_11 v (by omega) (by omega)
  by_cases h12 : v < 13312
  · exact sm_all_e 1024 sm_k22_12 v (by omega) (by omega)
  by_cases h13 : v < 14336
  · exact sm_all_e 1024 sm_k22_13 v (by omega) (by omega)
  by_cases h14 : v < 15360
  · exact sm_all_e 1024 sm_k22_14 v (by omega) (by omega)
  exact sm_all_e 1024 sm_k22_15 v (by omega) (by omega)
theorem sm_facts {P v : Nat} (h : sm_okv P v) : sm_ck (sm_enc P v) P = 0 ∧ sm_on (sm_enc P v) P % 2 = 0 ∧ sm_d (sm_enc P v) P = v := by
  have g : sm_good P (sm_enc P v) v = true := by
    rcases h with ⟨rfl, h⟩ | ⟨rfl, h⟩
    · exact sm_k22 h
    · exact sm_all_e 256 sm_k13 v (by omega) (by omega)
  unfold sm_good at g
  rw [Bool.and_eq_true, Bool.and_eq_true] at g
  exact ⟨eq_of_beq g.1, eq_of_beq g.2.1, eq_of_beq g.2.2⟩
theorem sm_bt_t (c p : Nat) : sm_bt c p = (c.testBit p).toNat := by
  unfold sm_bt
  rw [Nat.toNat_testBit, Nat.and_one_is_mod, Nat.shiftRight_eq_div_pow]
theorem sm_bt_01 (c p : Nat) : sm_bt c p = 0 ∨ sm_bt c p = 1 := by
  rw [sm_bt_t]
  cases c.testBit p
  · exact Or.inl rfl
  · exact Or.inr rfl
theorem sm_bt_x (c b p : Nat) : sm_bt (c ^^^ (1 <<< b)) p = if p = b then 1 - sm_bt c p else sm_bt c p := by
  rw [sm_bt_t, sm_bt_t, Nat.testBit_xor, Nat.one_shiftLeft, Nat.testBit_two_pow]
  by_cases h : p = b
  · subst h
    rw [if_pos rfl, decide_eq_true rfl]
    cases c.testBit p <;> rfl
  · rw [if_neg h, decide_eq_false (fun z => h z.symm)]
    cases c.testBit p <;> rfl
theorem sm_ck_x (c b : Nat) : ∀ k, sm_ck (c ^^^ (1 <<< b)) k = sm_ck c k ^^^ (if b < k then b else 0) := by
  intro k
  induction k with
  | zero => rw [if_neg (Nat.not_lt_zero b), Nat.xor_zero]; rfl
  | succ k ih =>
    show sm_ck (c ^^^ (1 <<< b)) k ^^^ (sm_bt (c ^^^ (1 <<< b)) k * k) = (sm_ck c k ^^^ (sm_bt c k * k)) ^^^ _
    rw [ih, sm_bt_x]
    by_cases h : k = b
    · subst h
      rw [if_pos rfl, if_neg (Nat.lt_irrefl k), if_pos (Nat.lt_succ_self k), Nat.xor_zero]
      rcases sm_bt_01 c k with z | z
      · rw [z, Nat.zero_mul, Nat.xor_zero]
        show _ ^^^ (1 * k) = _
        rw [Nat.one_mul]
      · rw [z, Nat.one_mul, Nat.xor_assoc, Nat.xor_self]
        show _ ^^^ (0 * k) = _
        rw [Nat.zero_mul]
    · rw [if_neg h, Nat.xor_assoc, Nat.xor_assoc, Nat.xor_comm (if b < k then b else 0)]
      congr 2
      by_cases h2 : b < k
      · rw [if_pos h2, if_pos (by omega)]
      · rw [if_neg h2, if_neg (by omega)]
theorem sm_on_x (c b : Nat) : ∀ k, (sm_on (c ^^^ (1 <<< b)) k + sm_on c k) % 2 = if b < k then 1 else 0 := by
  intro k
  induction k with
  | zero => rfl
  | succ k ih =>
    show (sm_on (c ^^^ (1 <<< b)) k + sm_bt (c ^^^ (1 <<< b)) k + (sm_on c k + sm_bt c k)) % 2 = _
    rw [sm_bt_x]
    by_cases h : k = b
    · subst h
      rw [if_neg (Nat.lt_irrefl k)] at ih
      rw [if_pos rfl, if_pos (Nat.lt_succ_self k)]
      rcases sm_bt_01 c k with z | z <;> rw [z] <;> omega
    · rw [if_neg h]
      by_cases h2 : b < k
      · rw [if_pos h2] at ih
        rw [if_pos (by omega)]
        omega
      · rw [if_neg h2] at ih
        rw [if_neg (by omega)]
        omega
/-- what correct makes of a code word -/
def sm_cor (P c : Nat) : Nat := if sm_on c P % 2 = 0 then c else c ^^^ (1 <<< sm_ck c P)
theorem sm_cor_0 {P v : Nat} (h : sm_okv P v) : sm_cor P (sm_enc P v) = sm_enc P v := if_pos (sm_facts h).2.1
theorem sm_ck_b {P v b : Nat} (h : sm_okv P v) (hb : b < P) : sm_ck (sm_enc P v ^^^ (1 <<< b)) P = b := by
  rw [sm_ck_x, (sm_facts h).1, if_pos hb, Nat.zero_xor]
theorem sm_cor_b {P v b : Nat} (h : sm_okv P v) (hb : b < P) : sm_cor P (sm_enc P v ^^^ (1 <<< b)) = sm_enc P v := by
  have h1 := sm_on_x (sm_enc P v) b P
  rw [if_pos hb] at h1
  have h2 := (sm_facts h).2.1
  unfold sm_cor
  rw [if_neg (by omega), sm_ck_b h hb, Nat.xor_assoc, Nat.xor_self, Nat.xor_zero]
/-- a code word of value v, spoiled or not -/
def sm_WD (P v : Nat) (code s : Int32) : Prop := (s = 0 ∧ code = nI (sm_enc P v)) ∨ (s = 1 ∧ ∃ b, b < P ∧ code = nI (sm_enc P v ^^^ (1 <<< b)))
end
section
/-! numbers by bits, then the walks of the static methods -/
theorem sm_btn (n : Nat) {i : Nat} (hi : i < 32) : bt (nI n) i = n.testBit i := by
  show (BitVec.ofNat 32 n).getLsbD i = _
  rw [BitVec.getLsbD_ofNat]
  simp [hi]
theorem sm_or (a b : Nat) : nI a ||| nI b = nI (a ||| b) :=
  b_ext (fun i hi => by rw [b_or, sm_btn _ hi, sm_btn _ hi, sm_btn _ hi, Nat.testBit_or])
theorem sm_shl (a : Nat) {k : Nat} (hk : k < 32) : nI a <<< (nI k &&& 31) = nI (a <<< k) :=
  b_ext (fun i hi => by rw [b_shl k hk _ hi, sm_btn _ hi, sm_btn _ (by omega), Nat.testBit_shiftLeft])
theorem sm_t1 {i : Nat} (h : i ≠ 0) : Nat.testBit 1 i = false := by
  cases i with
  | zero => exact absurd rfl h
  | succ j => rw [Nat.testBit_succ]; exact Nat.zero_testBit j
theorem sm_bit (c : Nat) {p : Nat} (hp : p < 32) : (nI c >>> (nI p &&& 31)) &&& 1 = nI (sm_bt c p) := by
  apply b_ext
  intro i hi
  have e1 : bt (1 : Int32) i = Nat.testBit 1 i := sm_btn 1 hi
  rw [b_and, b_sshr p hp _ hi, e1, sm_btn _ hi]
  unfold sm_bt
  rw [Nat.testBit_and, Nat.testBit_shiftRight]
  by_cases h0 : i = 0
  · subst h0
    rw [if_pos (by omega), sm_btn _ (by omega)]
  · rw [sm_t1 h0, Bool.and_false, Bool.and_false]
theorem sm_succ {n k : Nat} (h : k < n) : ∃ m, n = m + 1 ∧ k ≤ m := ⟨n - 1, by omega, by omega⟩
theorem sm_pw_t {post : Int32 → Prop} {p : Nat} (h1 : 1 ≤ p) (hp : p < 2 ^ 31) (z : sm_pw p = true) (h : post 1) : wpX_isPower post (nI p) := by
  have e : nI p - 1 = nI (p - 1) := by
    obtain ⟨q, rfl⟩ : ∃ q, p = q + 1 := ⟨p - 1, by omega⟩
    exact nI_pred q
  have z' : p &&& (p - 1) = 0 := eq_of_beq z
  exact br_t (by rw [e, nx_and, z']; rfl) h
theorem sm_pw_f {post : Int32 → Prop} {p : Nat} (h1 : 1 ≤ p) (hp : p < 2 ^ 31) (z : ¬ sm_pw p = true) (h : post 0) : wpX_isPower post (nI p) := by
  have e : nI p - 1 = nI (p - 1) := by
    obtain ⟨q, rfl⟩ : ∃ q, p = q + 1 := ⟨p - 1, by omega⟩
    exact nI_pred q
  have z' : ¬ p &&& (p - 1) = 0 := fun y => z (by unfold sm_pw; rw [y]; rfl)
  have b : p &&& (p - 1) ≤ p := Nat.and_le_left
  exact br_f (by rw [e, nx_and]; exact nI_ne0 (by omega) (by omega)) h
theorem sm_ckL {post : Int32 → Prop} {c P : Nat} (hP : P < 32) (h : post (nI (sm_ck c P))) : ∀ k n p, p + k = P → k < n → wX_checksOf_4 post (nI c) (nI P) n (nI (sm_ck c p)) (nI p) := by
  intro k
  induction k with
  | zero =>
    intro n p hp hn
    obtain ⟨m, rfl, hm⟩ := sm_succ hn
    obtain rfl : p = P := by omega
    exact br_t (nI_le (Nat.le_refl _) (by omega)) h
  | succ k ih =>
    intro n p hp hn
    obtain ⟨m, rfl, hm⟩ := sm_succ hn
    have hb := sm_bit c (p := p) (by omega)
    have e := ih m (p + 1) (by omega) (by omega)
    refine br_f (nI_ge (by omega) (by omega)) ?_
    rcases sm_bt_01 c p with z | z
    · have e2 : nI (sm_ck c p) ^^^ 0 = nI (sm_ck c (p + 1)) := by
        show nI (sm_ck c p) ^^^ nI 0 = nI (sm_ck c p ^^^ (sm_bt c p * p))
        rw [z, Nat.zero_mul, nx_xor]
      exact br_t (by rw [hb, z]; rfl) (nm_r e2 (nm_r (nI_1 p) e))
    · have e2 : nI (sm_ck c p) ^^^ nI p = nI (sm_ck c (p + 1)) := by
        show nI (sm_ck c p) ^^^ nI p = nI (sm_ck c p ^^^ (sm_bt c p * p))
        rw [z, Nat.one_mul, nx_xor]
      exact br_f (by rw [hb, z]; decide) (nm_r e2 (nm_r (nI_1 p) e))
theorem sm_ckW {post : Int32 → Prop} {c P : Nat} (hP : P < 32) (h1 : 1 ≤ P) (h : post (nI (sm_ck c P))) : wpX_checksOf post (nI c) (nI P) := by
  have e := sm_ckL hP h (P - 1) P 1 (by omega) (by omega)
  have z : sm_ck c 1 = 0 := by
    show 0 ^^^ (sm_bt c 0 * 0) = 0
    rw [Nat.mul_zero]; rfl
  rw [z] at e
  exact ⟨P, e⟩
theorem sm_onL {post : Int32 → Prop} {c P : Nat} (hP : P < 32) (h : post (nI (sm_on c P))) : ∀ k n p, p + k = P → k < n → wX_onesOf_4 post (nI c) (nI P) n (nI (sm_on c p)) (nI p) := by
  intro k
  induction k with
  | zero =>
    intro n p hp hn
    obtain ⟨m, rfl, hm⟩ := sm_succ hn
    obtain rfl : p = P := by omega
    exact br_t (nI_le (Nat.le_refl _) (by omega)) h
  | succ k ih =>
    intro n p hp hn
    obtain ⟨m, rfl, hm⟩ := sm_succ hn
    have e := ih m (p + 1) (by omega) (by omega)
    have e2 : nI (sm_on c p) + ((nI c >>> (nI p &&& 31)) &&& 1) = nI (sm_on c (p + 1)) := by
      rw [sm_bit c (by omega), nI_add]; rfl
    exact br_f (nI_ge (by omega) (by omega)) (nm_r e2 (nm_r (nI_1 p) e))
theorem sm_onW {post : Int32 → Prop} {c P : Nat} (hP : P < 32) (h : post (nI (sm_on c P))) : wpX_onesOf post (nI c) (nI P) :=
  ⟨P + 1, sm_onL hP h P (P + 1) 0 (by omega) (by omega)⟩
theorem sm_and2 (n j : Nat) : n &&& 2 ^ j = sm_bt n j * 2 ^ j := by
  rw [sm_bt_t]
  apply Nat.eq_of_testBit_eq
  intro i
  rw [Nat.testBit_and, Nat.testBit_two_pow]
  by_cases h : j = i
  · subst h
    rw [decide_eq_true rfl, Bool.and_true]
    cases n.testBit j
    · show false = (0 * 2 ^ j).testBit j
      rw [Nat.zero_mul, Nat.zero_testBit]
    · show true = (1 * 2 ^ j).testBit j
      rw [Nat.one_mul, Nat.testBit_two_pow_self]
  · rw [decide_eq_false h, Bool.and_false]
    cases n.testBit j
    · show false = (0 * 2 ^ j).testBit i
      rw [Nat.zero_mul, Nat.zero_testBit]
    · show false = (1 * 2 ^ j).testBit i
      rw [Nat.one_mul, Nat.testBit_two_pow, decide_eq_false h]
theorem sm_e2L {post : Int32 → Prop} {c ch P J : Nat} (hP : P < 32) (hJ : P ≤ 2 ^ J) (hj : ∀ j, j < J → 2 ^ j < P) (hJ5 : 2 ^ J < 64)
    (h : post (nI (sm_e2 c ch J ||| (sm_on (sm_e2 c ch J) P &&& 1)))) : ∀ k n j, j + k = J → k < n → wX_encode_51 post (nI P) (nI ch) n (nI (sm_e2 c ch j)) (nI (2 ^ j)) := by
  intro k
  induction k with
  | zero =>
    intro n j hjk hn
    obtain ⟨m, rfl, hm⟩ := sm_succ hn
    obtain rfl : j = J := by omega
    refine br_t (nI_le hJ (by omega)) (sm_onW hP ?_)
    have e : nI (sm_e2 c ch j) ||| (nI (sm_on (sm_e2 c ch j) P) &&& 1) = nI (sm_e2 c ch j ||| (sm_on (sm_e2 c ch j) P &&& 1)) := by
      show nI (sm_e2 c ch j) ||| (nI (sm_on (sm_e2 c ch j) P) &&& nI 1) = _
      rw [nx_and, sm_or]
    rw [e]
    exact h
  | succ k ih =>
    intro n j hjk hn
    obtain ⟨m, rfl, hm⟩ := sm_succ hn
    have hlt := hj j (by omega)
    have e := ih m (j + 1) (by omega) (by omega)
    have ea : nI ch &&& nI (2 ^ j) = nI (sm_bt ch j * 2 ^ j) := by
      rw [nx_and, sm_and2]
    have ex : nI (2 ^ j) * 2 = nI (2 ^ (j + 1)) := by
      rw [Nat.pow_succ]; exact pk_mul (2 ^ j) 2
    have hpos : 0 < 2 ^ j := Nat.two_pow_pos j
    refine br_f (nI_ge hlt (by omega)) ?_
    rcases sm_bt_01 ch j with z | z
    · have e2 : nI (sm_e2 c ch j) ||| 0 = nI (sm_e2 c ch (j + 1)) := by
        show nI (sm_e2 c ch j) ||| nI 0 = nI (sm_e2 c ch j ||| (sm_bt ch j <<< (2 ^ j)))
        rw [z, Nat.zero_shiftLeft, sm_or]
      exact br_t (by rw [ea, z, Nat.zero_mul]; rfl) (nm_r e2 (nm_r ex e))
    · have e2 : nI (sm_e2 c ch j) ||| ((1 : Int32) <<< (nI (2 ^ j) &&& 31)) = nI (sm_e2 c ch (j + 1)) := by
        show nI (sm_e2 c ch j) ||| (nI 1 <<< (nI (2 ^ j) &&& 31)) = nI (sm_e2 c ch j ||| (sm_bt ch j <<< (2 ^ j)))
        rw [z, sm_shl 1 (by omega), sm_or]
      exact br_f (by rw [ea, z, Nat.one_mul]; exact nI_ne0 hpos (by omega)) (nm_r e2 (nm_r ex e))
theorem sm_nx_le : ∀ k, sm_nx k ≤ k := by
  intro k
  induction k with
  | zero => exact Nat.le_refl _
  | succ k ih =>
    show (if sm_pw k = true then sm_nx k else sm_nx k + 1) ≤ k + 1
    by_cases z : sm_pw k = true
    · rw [if_pos z]; omega
    · rw [if_neg z]; omega
theorem sm_e1L {post : Int32 → Prop} {v P : Nat} (hP : P < 32) (h3 : 3 ≤ P) (h : ∃ n, wX_encode_51 post (nI P) (nI (sm_ck (sm_e1 v P) P)) n (nI (sm_e1 v P)) 1) :
    ∀ k n p, 3 ≤ p → p + k = P → k < n → wX_encode_7 post (nI v) (nI P) n (nI (sm_e1 v p)) (nI (sm_nx p)) (nI p) := by
  intro k
  induction k with
  | zero =>
    intro n p h3 hp hn
    obtain ⟨m, rfl, hm⟩ := sm_succ hn
    obtain rfl : p = P := by omega
    exact br_t (nI_le (Nat.le_refl _) (by omega)) (sm_ckW hP (by omega) h)
  | succ k ih =>
    intro n p h3 hp hn
    obtain ⟨m, rfl, hm⟩ := sm_succ hn
    have e := ih m (p + 1) (by omega) (by omega) (by omega)
    have hx := sm_nx_le p
    refine br_f (nI_ge (by omega) (by omega)) ?_
    by_cases z : sm_pw p = true
    · have e1 : sm_e1 v (p + 1) = sm_e1 v p := if_pos z
      have e2 : sm_nx (p + 1) = sm_nx p := if_pos z
      rw [e1, e2] at e
      exact sm_pw_t (by omega) (by omega) z (br_f (by decide) (nm_r (nI_1 p) e))
    · have e1 : nI (sm_e1 v p) ||| (((nI v >>> (nI (sm_nx p) &&& 31)) &&& 1) <<< (nI p &&& 31)) = nI (sm_e1 v (p + 1)) := by
        rw [sm_bit v (by omega), sm_shl _ (by omega), sm_or]
        exact congrArg nI (if_neg z).symm
      have e2 : nI (sm_nx p) + 1 = nI (sm_nx (p + 1)) := by
        rw [nI_1]
        exact congrArg nI (if_neg z).symm
      exact sm_pw_f (by omega) (by omega) z (br_t rfl (nm_r e1 (nm_r e2 (nm_r (nI_1 p) e))))
theorem sm_encW {post : Int32 → Prop} {P v : Nat} (hv : sm_okv P v) (h : post (nI (sm_enc P v))) : wpX_encode post (nI v) (nI P) := by
  have hp := sm_okP hv
  have hJ : P ≤ 2 ^ sm_J P ∧ (∀ j, j < sm_J P → 2 ^ j < P) ∧ 2 ^ sm_J P < 64 := by
    rcases hv with ⟨rfl, _⟩ | ⟨rfl, _⟩
    · exact by decide
    · exact by decide
  have k51 := sm_e2L (c := sm_e1 v P) (ch := sm_ck (sm_e1 v P) P) hp.1 hJ.1 hJ.2.1 hJ.2.2 h (sm_J P) (sm_J P + 1) 0 (by omega) (by omega)
  have k7 := sm_e1L hp.1 hp.2 ⟨_, k51⟩ (P - 3) P 3 (by omega) (by omega) (by omega)
  exact ⟨P, k7⟩
theorem sm_dL {post : Int32 → Prop} {c P : Nat} (hP : P < 32) (h : post (nI (sm_d c P))) :
    ∀ k n p, 3 ≤ p → p + k = P → k < n → wX_decode_7 post (nI c) (nI P) n (nI (sm_d c p)) (nI (sm_nx p)) (nI p) := by
  intro k
  induction k with
  | zero =>
    intro n p h3 hp hn
    obtain ⟨m, rfl, hm⟩ := sm_succ hn
    obtain rfl : p = P := by omega
    exact br_t (nI_le (Nat.le_refl _) (by omega)) h
  | succ k ih =>
    intro n p h3 hp hn
    obtain ⟨m, rfl, hm⟩ := sm_succ hn
    have e := ih m (p + 1) (by omega) (by omega) (by omega)
    have hx := sm_nx_le p
    refine br_f (nI_ge (by omega) (by omega)) ?_
    by_cases z : sm_pw p = true
    · have e1 : sm_d c (p + 1) = sm_d c p := if_pos z
      have e2 : sm_nx (p + 1) = sm_nx p := if_pos z
      rw [e1, e2] at e
      exact sm_pw_t (by omega) (by omega) z (br_f (by decide) (nm_r (nI_1 p) e))
    · have e1 : nI (sm_d c p) ||| (((nI c >>> (nI p &&& 31)) &&& 1) <<< (nI (sm_nx p) &&& 31)) = nI (sm_d c (p + 1)) := by
        rw [sm_bit c (by omega), sm_shl _ (by omega), sm_or]
        exact congrArg nI (if_neg z).symm
      have e2 : nI (sm_nx p) + 1 = nI (sm_nx (p + 1)) := by
        rw [nI_1]
        exact congrArg nI (if_neg z).symm
      exact sm_pw_f (by omega) (by omega) z (br_t rfl (nm_r e1 (nm_r e2 (nm_r (nI_1 p) e))))
theorem sm_decW {post : Int32 → Prop} {P v : Nat} (hv : sm_okv P v) (h : post (nI v)) : wpX_decode post (nI (sm_enc P v)) (nI P) := by
  have hp := sm_okP hv
  have k7 := sm_dL (post := post) (c := sm_enc P v) hp.1 (by rw [(sm_facts hv).2.2]; exact h) (P - 3) P 3 (by omega) (by omega) (by omega)
  exact ⟨P, k7⟩
theorem sm_corW {post : Int32 → Prop} {P c : Nat} (hP : P < 32) (h1 : 1 ≤ P) (hc : sm_ck c P < 32) (h : post (nI (sm_cor P c))) : wpX_correct post (nI c) (nI P) := by
  refine sm_onW hP (sm_ckW hP h1 ?_)
  have e : nI (sm_on c P) &&& 1 = nI (sm_on c P % 2) := by
    show nI (sm_on c P) &&& nI 1 = _
    rw [nx_and, Nat.and_one_is_mod]
  have e2 : nI c ^^^ ((1 : Int32) <<< (nI (sm_ck c P) &&& 31)) = nI (c ^^^ (1 <<< sm_ck c P)) := by
    show nI c ^^^ (nI 1 <<< (nI (sm_ck c P) &&& 31)) = _
    rw [sm_shl 1 hc, nx_xor]
  by_cases z : sm_on c P % 2 = 0
  · have hh : sm_cor P c = c := if_pos z
    rw [hh] at h
    exact br_t (by rw [e, z]; rfl) h
  · have hh : sm_cor P c = c ^^^ (1 <<< sm_ck c P) := if_neg z
    rw [hh] at h
    refine br_f (by rw [e]; exact nI_ne0 (by omega) (by omega)) ?_
    rw [e2]
    exact h
theorem sm_corD {post : Int32 → Prop} {P v : Nat} {code s : Int32} (hv : sm_okv P v) (hd : sm_WD P v code s) (h : post (nI (sm_enc P v))) : wpX_correct post code (nI P) := by
  have hp := sm_okP hv
  rcases hd with ⟨_, rfl⟩ | ⟨_, b, hb, rfl⟩
  · refine sm_corW hp.1 (by omega) ?_ ?_
    · rw [(sm_facts hv).1]; omega
    · rw [sm_cor_0 hv]; exact h
  · refine sm_corW hp.1 (by omega) ?_ ?_
    · rw [sm_ck_b hv hb]; omega
    · rw [sm_cor_b hv hb]; exact h
end
section
/-! votes, the adder, workOut -/
def sm_vo (a b c : Int32) : Int32 := ((a &&& b) ||| (a &&& c)) ||| (b &&& c)
theorem sm_vo1 (x y : Int32) : sm_vo x y y = y := by
  apply b_ext; intro i hi
  unfold sm_vo
  rw [b_or, b_or, b_and, b_and]
  cases bt x i <;> cases bt y i <;> rfl
theorem sm_vo2 (x y : Int32) : sm_vo y x y = y := by
  apply b_ext; intro i hi
  unfold sm_vo
  rw [b_or, b_or, b_and, b_and, b_and]
  cases bt x i <;> cases bt y i <;> rfl
theorem sm_vo3 (x y : Int32) : sm_vo y y x = y := by
  apply b_ext; intro i hi
  unfold sm_vo
  rw [b_or, b_or, b_and, b_and]
  cases bt x i <;> cases bt y i <;> rfl
/-- three copies of y, of which the one that t names (h as a bit) may be wrong -/
def sm_T (x0 x1 x2 h y t : Int32) : Prop :=
  (t = 0 ∧ h = 0 ∧ x0 = y ∧ x1 = y ∧ x2 = y) ∨ (t = 1 ∧ h = 1 ∧ x1 = y ∧ x2 = y) ∨ (t = 2 ∧ h = 2 ∧ x0 = y ∧ x2 = y) ∨ (t = 3 ∧ h = 4 ∧ x0 = y ∧ x1 = y)
theorem sm_T_vo {x0 x1 x2 h y t : Int32} (T : sm_T x0 x1 x2 h y t) : sm_vo x0 x1 x2 = y := by
  rcases T with ⟨_, _, rfl, rfl, rfl⟩ | ⟨_, _, rfl, rfl⟩ | ⟨_, _, rfl, rfl⟩ | ⟨_, _, rfl, rfl⟩
  · exact sm_vo1 _ _
  · exact sm_vo1 _ _
  · exact sm_vo2 _ _
  · exact sm_vo3 _ _
theorem sm_xor0 (f : Int32) : f ^^^ 0 = f := by
  apply b_ext; intro i hi
  rw [b_xor, b_0]
  cases bt f i <;> rfl
theorem sm_T_x {x0 x1 x2 h t : Int32} (f : Int32) (T : sm_T x0 x1 x2 h 0 t) : sm_vo (f ^^^ x0) (f ^^^ x1) (f ^^^ x2) = f := by
  rcases T with ⟨_, _, rfl, rfl, rfl⟩ | ⟨_, _, rfl, rfl⟩ | ⟨_, _, rfl, rfl⟩ | ⟨_, _, rfl, rfl⟩
  · rw [sm_xor0]; exact sm_vo1 _ _
  · rw [sm_xor0]; exact sm_vo1 _ _
  · rw [sm_xor0]; exact sm_vo2 _ _
  · rw [sm_xor0]; exact sm_vo3 _ _
theorem sm_T0 {x0 x1 x2 h y t : Int32} (e0 : x0 = y) (e1 : x1 = y) (e2 : x2 = y) (eh : h = 0) (et : t = 0) : sm_T x0 x1 x2 h y t := Or.inl ⟨et, eh, e0, e1, e2⟩
/-- the adder's bit, written as a sum -/
theorem sm_orS {s t i : Nat} (hs : s < 2 ^ i) : s ||| (t <<< i) = s + t * 2 ^ i := by
  rw [Nat.or_comm, ← Nat.shiftLeft_add_eq_or_of_lt hs, Nat.shiftLeft_eq, Nat.add_comm]
theorem sm_msucc (a i : Nat) : a % 2 ^ (i + 1) = a % 2 ^ i + 2 ^ i * sm_bt a i := by
  unfold sm_bt
  rw [Nat.and_one_is_mod, Nat.shiftRight_eq_div_pow, Nat.mod_pow_succ]
theorem sm_bits : ∀ x, x < 2 → ∀ y, y < 2 → ∀ c, c < 2 → ((nI x ^^^ nI y) ^^^ nI c = nI ((x + y + c) % 2)) ∧ ((nI x &&& nI y) ||| (nI x &&& nI c)) ||| (nI y &&& nI c) = nI ((x + y + c) / 2) := by decide +kernel
theorem sm_arith {q s c A B c0 x y : Nat} (hx : x < 2) (hy : y < 2) (hc : c < 2) (h : s + c * q = A + B + c0) :
    s + ((x + y + c) % 2) * q + ((x + y + c) / 2) * (q * 2) = A + q * x + (B + q * y) + c0 := by
  have hx' : x = 0 ∨ x = 1 := by omega
  have hy' : y = 0 ∨ y = 1 := by omega
  have hc' : c = 0 ∨ c = 1 := by omega
  rcases hx' with rfl | rfl <;> rcases hy' with rfl | rfl <;> rcases hc' with rfl | rfl <;> simp only [Nat.zero_add, Nat.add_zero, Nat.reduceAdd, Nat.reduceMod, Nat.reduceDiv, Nat.zero_mul, Nat.one_mul, Nat.mul_zero, Nat.mul_one] at h ⊢ <;> omega
theorem sm_addL {post : Int32 → Prop} {a b c0 : Nat} (ha : a < 256) (hb : b < 256) (h : post (nI ((a + b + c0) % 256))) :
    ∀ k n i s c, i + k = 8 → k < n → c < 2 → s < 2 ^ i → s + c * 2 ^ i = a % 2 ^ i + b % 2 ^ i + c0 → wX_addBits_8 post (nI a) (nI b) n (nI s) (nI c) (nI i) := by
  intro k
  induction k with
  | zero =>
    intro n i s c hi hn hc hs he
    obtain ⟨m, rfl, hm⟩ := sm_succ hn
    obtain rfl : i = 8 := by omega
    have e : s = (a + b + c0) % 256 := by
      have h8 : (2 : Nat) ^ 8 = 256 := by decide
      rw [h8] at he hs
      omega
    rw [e]
    exact br_t (nI_le (Nat.le_refl 8) (by omega)) h
  | succ k ih =>
    intro n i s c hi hn hc hs he
    obtain ⟨m, rfl, hm⟩ := sm_succ hn
    have hx : sm_bt a i < 2 := by rcases sm_bt_01 a i with z | z <;> omega
    have hy : sm_bt b i < 2 := by rcases sm_bt_01 b i with z | z <;> omega
    obtain ⟨b1, b2⟩ := sm_bits _ hx _ hy _ hc
    have ex := sm_bit a (p := i) (by omega)
    have ey := sm_bit b (p := i) (by omega)
    have eo : nI s ||| (((nI (sm_bt a i) ^^^ nI (sm_bt b i)) ^^^ nI c) <<< (nI i &&& 31)) = nI (s + ((sm_bt a i + sm_bt b i + c) % 2) * 2 ^ i) := by
      rw [b1, sm_shl _ (by omega), sm_or, sm_orS hs]
    have hp : 2 ^ (i + 1) = 2 ^ i * 2 := Nat.pow_succ 2 i
    have hlt : s + ((sm_bt a i + sm_bt b i + c) % 2) * 2 ^ i < 2 ^ (i + 1) := by
      have hm2 : (sm_bt a i + sm_bt b i + c) % 2 < 2 := Nat.mod_lt _ (by decide)
      generalize (sm_bt a i + sm_bt b i + c) % 2 = t at hm2
      have ht : t = 0 ∨ t = 1 := by omega
      rw [hp]
      rcases ht with rfl | rfl <;> omega
    have hc' : (sm_bt a i + sm_bt b i + c) / 2 < 2 := by omega
    have hs' : s + ((sm_bt a i + sm_bt b i + c) % 2) * 2 ^ i + ((sm_bt a i + sm_bt b i + c) / 2) * 2 ^ (i + 1) = a % 2 ^ (i + 1) + b % 2 ^ (i + 1) + c0 := by
      rw [sm_msucc a i, sm_msucc b i, hp]
      exact sm_arith hx hy hc he
    have e := ih m (i + 1) _ _ (by omega) (by omega) hc' hlt hs'
    refine br_f (nI_ge (b := 8) (by omega) (by omega)) (nm_r ex (nm_r ey (nm_r eo ?_)))
    show ∀ x : Int32, x = nI i + 1 → wX_addBits_8 post (nI a) (nI b) m _ (((nI (sm_bt a i) &&& nI (sm_bt b i)) ||| (nI (sm_bt a i) &&& nI c)) ||| (nI (sm_bt b i) &&& nI c)) x
    rw [b2]
    exact nm_r (nI_1 i) e
theorem sm_addW {post : Int32 → Prop} {a b c0 : Nat} (ha : a < 256) (hb : b < 256) (hc : c0 < 2) (h : post (nI ((a + b + c0) % 256))) : wpX_addBits post (nI a) (nI b) (nI c0) :=
  ⟨9, sm_addL ha hb h 8 9 0 0 c0 (by omega) (by omega) hc (by decide) (by rw [Nat.pow_zero, Nat.mod_one, Nat.mod_one]; omega)⟩
/-- what a working gives -/
def sm_ca (o x y n : Nat) : Nat := if o = 1 then n else if o = 4 then (x + y) % 256 else if o = 5 then (x + 256 - y) % 256 else if o = 6 then x &&& y else if o = 7 then x ^^^ y else if o = 8 then x / 2 else x
theorem sm_x255 : ∀ y, y < 256 → nI y ^^^ 255 = nI (255 - y) := by decide +kernel
theorem sm_wo1 {post : Int32 → Prop} {a b n : Int32} (h : post n) : wpX_workOut post 1 a b n :=
  br_f (by decide) (br_f (by decide) (br_t rfl h))
theorem sm_wo9 {post : Int32 → Prop} {a b n : Int32} (h : post (n &&& 31)) : wpX_workOut post 9 a b n :=
  br_f (by decide) (br_f (by decide) (br_f (by decide) (br_f (by decide) (br_f (by decide) (br_f (by decide) (br_f (by decide) (br_f (by decide) (br_f (by decide) (br_f (by decide) (br_t rfl h))))))))))
theorem sm_wo4 {post : Int32 → Prop} {x y : Nat} {n : Int32} (hx : x < 256) (hy : y < 256) (h : post (nI ((x + y) % 256))) : wpX_workOut post 4 (nI x) (nI y) n :=
  br_f (by decide) (br_f (by decide) (br_f (by decide) (br_f (by decide) (br_f (by decide) (br_t rfl (sm_addW (c0 := 0) hx hy (by decide) h))))))
theorem sm_wo5 {post : Int32 → Prop} {x y : Nat} {n : Int32} (hx : x < 256) (hy : y < 256) (h : post (nI ((x + 256 - y) % 256))) : wpX_workOut post 5 (nI x) (nI y) n := by
  refine br_f (by decide) (br_f (by decide) (br_f (by decide) (br_f (by decide) (br_f (by decide) (br_f (by decide) (br_t rfl ?_))))))
  rw [sm_x255 y hy]
  refine sm_addW (c0 := 1) hx (by omega) (by decide) ?_
  have e : x + (255 - y) + 1 = x + 256 - y := by omega
  rw [e]
  exact h
theorem sm_wo6 {post : Int32 → Prop} {x y : Nat} {n : Int32} (h : post (nI (x &&& y))) : wpX_workOut post 6 (nI x) (nI y) n := by
  refine br_f (by decide) (br_f (by decide) (br_f (by decide) (br_f (by decide) (br_f (by decide) (br_f (by decide) (br_f (by decide) (br_t rfl ?_)))))))
  rw [nx_and]
  exact h
theorem sm_wo7 {post : Int32 → Prop} {x y : Nat} {n : Int32} (h : post (nI (x ^^^ y))) : wpX_workOut post 7 (nI x) (nI y) n := by
  refine br_f (by decide) (br_f (by decide) (br_f (by decide) (br_f (by decide) (br_f (by decide) (br_f (by decide) (br_f (by decide) (br_f (by decide) (br_t rfl ?_))))))))
  rw [nx_xor]
  exact h
theorem sm_wo8 {post : Int32 → Prop} {x y : Nat} {n : Int32} (hx : x < 256) (h : post (nI (x / 2))) : wpX_workOut post 8 (nI x) (nI y) n := by
  refine br_f (by decide) (br_f (by decide) (br_f (by decide) (br_f (by decide) (br_f (by decide) (br_f (by decide) (br_f (by decide) (br_f (by decide) (br_f (by decide) (br_t rfl ?_)))))))))
  rw [pk_shrN (by omega) _ 1 (by decide)]
  exact h
theorem sm_wo {post : Int32 → Prop} {o x y n : Nat} (ho : 4 ≤ o) (ho8 : o ≤ 8) (hx : x < 256) (hy : y < 256) (h : post (nI (sm_ca o x y n))) : wpX_workOut post (nI o) (nI x) (nI y) (nI n) := by
  have hc : o = 4 ∨ o = 5 ∨ o = 6 ∨ o = 7 ∨ o = 8 := by omega
  rcases hc with rfl | rfl | rfl | rfl | rfl
  · exact sm_wo4 hx hy h
  · exact sm_wo5 hx hy h
  · exact sm_wo6 h
  · exact sm_wo7 h
  · exact sm_wo8 hx h
theorem sm_ca_lt {o x y n : Nat} (hx : x < 256) (hy : y < 256) (hn : n < 256) : sm_ca o x y n < 256 := by
  unfold sm_ca
  by_cases h1 : o = 1
  · rw [if_pos h1]; exact hn
  rw [if_neg h1]
  by_cases h4 : o = 4
  · rw [if_pos h4]; exact Nat.mod_lt _ (by decide)
  rw [if_neg h4]
  by_cases h5 : o = 5
  · rw [if_pos h5]; exact Nat.mod_lt _ (by decide)
  rw [if_neg h5]
  by_cases h6 : o = 6
  · rw [if_pos h6]; exact Nat.lt_of_le_of_lt Nat.and_le_left hx
  rw [if_neg h6]
  by_cases h7 : o = 7
  · rw [if_pos h7]; exact Nat.xor_lt_two_pow (n := 8) hx hy
  rw [if_neg h7]
  by_cases h8 : o = 8
  · rw [if_pos h8]; omega
  rw [if_neg h8]; exact hx
theorem sm_sub255 {x y : Nat} (hx : x < 256) (hy : y < 256) : (nI x - nI y) &&& 255 = nI ((x + 256 - y) % 256) := by
  rw [pk_and (nI x - nI y) 8 (by decide), Int32.toBitVec_sub, BitVec.toNat_sub, pk_tn (by omega), pk_tn (by omega)]
  congr 1
  omega
theorem sm_add255 {x y : Nat} (hx : x < 256) (hy : y < 256) : (nI x + nI y) &&& 255 = nI ((x + y) % 256) := by
  rw [nI_add, pk_andN (by omega) 8 (by decide)]
theorem sm_caY {post : Int32 → Prop} {v : SY} {o x y n : Nat} (ho : o < 16) (hx : x < 256) (hy : y < 256) (h : post (nI (sm_ca o x y n))) : wpY_calculated post v (nI o) (nI x) (nI y) (nI n) := by
  obtain ⟨v1, v2, v3, v4, v5, v6, v7, v8, v9, v10, v11, v12⟩ := v
  unfold wpY_calculated
  dsimp only
  unfold sm_ca at h
  have q : ∀ j, j < 16 → o ≠ j → ¬ nI o = nI j := fun j hj hn z => hn ((nI_eq (by omega) (by omega)).mp z)
  by_cases h1 : o = 1
  · subst h1; exact br_t rfl h
  rw [if_neg h1] at h
  refine br_f (q 1 (by omega) h1) ?_
  by_cases h4 : o = 4
  · subst h4
    refine br_t rfl ?_
    rw [sm_add255 hx hy]; exact h
  rw [if_neg h4] at h
  refine br_f (q 4 (by omega) h4) ?_
  by_cases h5 : o = 5
  · subst h5
    refine br_t rfl ?_
    rw [sm_sub255 hx hy]; exact h
  rw [if_neg h5] at h
  refine br_f (q 5 (by omega) h5) ?_
  by_cases h6 : o = 6
  · subst h6
    refine br_t rfl ?_
    rw [nx_and]; exact h
  rw [if_neg h6] at h
  refine br_f (q 6 (by omega) h6) ?_
  by_cases h7 : o = 7
  · subst h7
    refine br_t rfl ?_
    rw [nx_xor]; exact h
  rw [if_neg h7] at h
  refine br_f (q 7 (by omega) h7) ?_
  by_cases h8 : o = 8
  · subst h8
    refine br_t rfl ⟨by decide, ?_⟩
    have e : nI x / 2 = nI (x / 2) := pk_div (d := 2) (by omega) (by decide) (by decide)
    rw [e]; exact h
  rw [if_neg h8] at h
  exact br_f (q 8 (by omega) h8) h
end
section
/-! the private methods that store: writeWord, repair, reads, votes, writes, workings -/
def sm_P (w : Nat) : Nat := if w < 32 then 22 else 13
theorem sm_nb0 : vp_nar .boolean 0 = 0 := by rfl
theorem sm_nb1 : vp_nar .boolean 1 = 1 := by rfl
theorem sm_ny0 : vp_nar .byte 0 = 0 := by rfl
theorem sm_plW {post : Int32 → Prop} {w : Nat} (hw : w < 48) (h : post (nI (sm_P w))) : wpX_placesOf post (nI w) := by
  unfold sm_P at h
  by_cases z : w < 32
  · rw [if_pos z] at h
    exact br_f (nI_ge (b := 32) z (by omega)) h
  · rw [if_neg z] at h
    exact br_t (nI_le (a := 32) (by omega) (by omega)) h
/-- the first c places hold v -/
def sm_fl (a : Nat → Int32) (c : Nat) (v : Int32) : Nat → Int32 := fun j => if j < c then v else a j
theorem sm_fl0 (a : Nat → Int32) (v : Int32) : sm_fl a 0 v = a := by
  funext j; exact if_neg (Nat.not_lt_zero j)
theorem sm_fls (a : Nat → Int32) (c : Nat) (v : Int32) : upd (sm_fl a c v) c v = sm_fl a (c + 1) v := by
  funext j
  unfold upd sm_fl
  by_cases h : j = c
  · rw [if_pos h, if_pos (by omega)]
  · rw [if_neg h]
    by_cases h2 : j < c
    · rw [if_pos h2, if_pos (by omega)]
    · rw [if_neg h2, if_neg (by omega)]
theorem sm_flt {a : Nat → Int32} {c : Nat} {v : Int32} {j : Nat} (h : j < c) : sm_fl a c v j = v := if_pos h
theorem sm_flf {a : Nat → Int32} {c : Nat} {v : Int32} {j : Nat} (h : c ≤ j) : sm_fl a c v j = a j := if_neg (by omega)
/-- register r's first c copies hold v -/
def sm_w (a : Nat → Int32) (r c : Nat) (v : Int32) : Nat → Int32 := fun j => if r * 3 ≤ j ∧ j < r * 3 + c then v else a j
theorem sm_w0 (a : Nat → Int32) (r : Nat) (v : Int32) : sm_w a r 0 v = a := by
  funext j; exact if_neg (by omega)
theorem sm_ws (a : Nat → Int32) (r c : Nat) (v : Int32) : upd (sm_w a r c v) (r * 3 + c) v = sm_w a r (c + 1) v := by
  funext j
  unfold upd sm_w
  by_cases h : j = r * 3 + c
  · rw [if_pos h, if_pos (by omega)]
  · rw [if_neg h]
    by_cases h2 : r * 3 ≤ j ∧ j < r * 3 + c
    · rw [if_pos h2, if_pos (by omega)]
    · rw [if_neg h2, if_neg (by omega)]
/-- the registers' copies below r hold what yr says -/
def sm_va (a yr : Nat → Int32) (r : Nat) : Nat → Int32 := fun j => if j < r * 3 then yr (j / 3) else a j
theorem sm_va0 (a yr : Nat → Int32) : sm_va a yr 0 = a := by
  funext j; exact if_neg (by omega)
theorem sm_vas (a yr : Nat → Int32) (r : Nat) : sm_w (sm_va a yr r) r 3 (yr r) = sm_va a yr (r + 1) := by
  funext j
  unfold sm_w sm_va
  by_cases h : r * 3 ≤ j ∧ j < r * 3 + 3
  · have e : j / 3 = r := by omega
    rw [if_pos h, if_pos (by omega), e]
  · rw [if_neg h]
    by_cases h2 : j < r * 3
    · rw [if_pos h2, if_pos (by omega)]
    · rw [if_neg h2, if_neg (by omega)]
/-- the first c results -/
def sm_rs (a wm : Nat → Int32) (f : Int32) (c : Nat) : Nat → Int32 := fun j => if j < c then f ^^^ wm j else a j
theorem sm_rs0 (a wm : Nat → Int32) (f : Int32) : sm_rs a wm f 0 = a := by
  funext j; exact if_neg (by omega)
theorem sm_rss (a wm : Nat → Int32) (f : Int32) (c : Nat) : upd (sm_rs a wm f c) c (f ^^^ wm c) = sm_rs a wm f (c + 1) := by
  funext j
  unfold upd sm_rs
  by_cases h : j = c
  · rw [if_pos h, if_pos (by omega), h]
  · rw [if_neg h]
    by_cases h2 : j < c
    · rw [if_pos h2, if_pos (by omega)]
    · rw [if_neg h2, if_neg (by omega)]
section
variable {ph wh sd st oc : Int32} {rg pl rh wm cw sp ol rs : Nat → Int32}
theorem sm_ww {post : SX → Prop} {w v : Nat} (hw : w < 48) (hv : sm_okv (sm_P w) v)
    (h : post (ph, wh, sd, st, oc, rg, pl, rh, wm, upd cw w (nI (sm_enc (sm_P w) v)), upd sp w 0, ol, rs)) : wpX_writeWord post (ph, wh, sd, st, oc, rg, pl, rh, wm, cw, sp, ol, rs) (nI w) (nI v) := by
  unfold wpX_writeWord
  dsimp only
  refine sm_plW hw (sm_encW hv ?_)
  rw [nI_clamp (by omega), sm_nb0]
  exact ⟨vp_in_nI hw (by omega), nm_e ⟨vp_in_nI hw (by omega), nm_e h⟩⟩
theorem sm_rw {post : Int32 → Prop} {w v : Nat} {s : Int32} (hw : w < 48) (hv : sm_okv (sm_P w) v) (hd : sm_WD (sm_P w) v (cw w) s) (h : post (nI v)) :
    wpX_readWord post (ph, wh, sd, st, oc, rg, pl, rh, wm, cw, sp, ol, rs) (nI w) := by
  unfold wpX_readWord
  dsimp only
  refine sm_plW hw ⟨vp_in_nI hw (by omega), ?_⟩
  rw [nI_clamp (by omega)]
  exact sm_corD hv hd (sm_decW hv h)
theorem sm_rp {post : SX → Prop} {w v : Nat} {s : Int32} (hw : w < 48) (hv : sm_okv (sm_P w) v) (hd : sm_WD (sm_P w) v (cw w) s)
    (h : post (ph, wh, sd, st, oc, rg, pl, rh, wm, upd cw w (nI (sm_enc (sm_P w) v)), upd sp w 0, ol, rs)) : wpX_repair post (ph, wh, sd, st, oc, rg, pl, rh, wm, cw, sp, ol, rs) (nI w) := by
  unfold wpX_repair
  dsimp only
  refine sm_plW hw ⟨vp_in_nI hw (by omega), ?_⟩
  rw [nI_clamp (by omega), sm_nb0]
  exact sm_corD hv hd ⟨vp_in_nI hw (by omega), nm_e ⟨vp_in_nI hw (by omega), nm_e h⟩⟩
theorem sm_rr {post : Int32 → SX → Prop} {w v : Nat} {s : Int32} (hw : w < 48) (hv : sm_okv (sm_P w) v) (hd : sm_WD (sm_P w) v (cw w) s)
    (h : post (nI v) (ph, wh, sd, st, oc, rg, pl, rh, wm, upd cw w (nI (sm_enc (sm_P w) v)), upd sp w 0, ol, rs)) : wpX_readAndRepair post (ph, wh, sd, st, oc, rg, pl, rh, wm, cw, sp, ol, rs) (nI w) := by
  unfold wpX_readAndRepair
  dsimp only
  refine sm_rp hw hv hd ?_
  exact sm_rw hw hv (s := 0) (Or.inl ⟨rfl, pk_us⟩) h
theorem sm_vr {post : Int32 → Prop} {r : Nat} {x y t : Int32} (hr : r < 4) (T : sm_T (rg (r * 3)) (rg (r * 3 + 1)) (rg (r * 3 + 2)) x y t) (h : post y) :
    wpX_voteRegister post (ph, wh, sd, st, oc, rg, pl, rh, wm, cw, sp, ol, rs) (nI r) := by
  unfold wpX_voteRegister
  dsimp only
  have e : nI r * 3 = nI (r * 3) := pk_mul r 3
  have e1 : nI (r * 3) + 1 = nI (r * 3 + 1) := nI_add (r * 3) 1
  have e2 : nI (r * 3) + 2 = nI (r * 3 + 2) := nI_add (r * 3) 2
  rw [e, e1, e2, nI_clamp (by omega), nI_clamp (by omega), nI_clamp (by omega)]
  refine ⟨vp_in_nI (by omega) (by omega), vp_in_nI (by omega) (by omega), vp_in_nI (by omega) (by omega), ?_⟩
  have e3 := sm_T_vo T
  unfold sm_vo at e3
  unfold wpX_vote
  rw [e3]
  exact h
theorem sm_vp {post : Int32 → Prop} {x y t : Int32} (T : sm_T (pl 0) (pl 1) (pl 2) x y t) (h : post y) : wpX_votePlace post (ph, wh, sd, st, oc, rg, pl, rh, wm, cw, sp, ol, rs) := by
  unfold wpX_votePlace
  dsimp only
  have e3 := sm_T_vo T
  unfold sm_vo at e3
  unfold wpX_vote
  rw [e3]
  exact h
theorem sm_wrL {post : SX → Prop} {r : Nat} {v : Int32} (hr : r < 4) (h : post (ph, wh, sd, st, oc, sm_w rg r 3 v, pl, rh, wm, cw, sp, ol, rs)) :
    ∀ k n c, c + k = 3 → k < n → wX_writeRegister_2 post (nI r) v ph wh sd st oc n (nI c) (sm_w rg r c v) pl rh wm cw sp ol rs := by
  intro k
  induction k with
  | zero =>
    intro n c hc hn
    obtain ⟨m, rfl, hm⟩ := sm_succ hn
    obtain rfl : c = 3 := by omega
    exact br_t (nI_le (Nat.le_refl 3) (by omega)) h
  | succ k ih =>
    intro n c hc hn
    obtain ⟨m, rfl, hm⟩ := sm_succ hn
    have e := ih m (c + 1) (by omega) (by omega)
    have e1 : nI r * 3 + nI c = nI (r * 3 + c) := by
      have e : nI r * 3 = nI (r * 3) := pk_mul r 3
      rw [e, nI_add]
    have e2 : upd (sm_w rg r c v) (nI r * 3 + nI c).toNatClampNeg v = sm_w rg r (c + 1) v := by
      rw [e1, nI_clamp (by omega), sm_ws]
    exact br_f (nI_ge (b := 3) (by omega) (by omega)) ⟨by rw [e1]; exact vp_in_nI (by omega) (by omega), nm_r e2 (nm_r (nI_1 c) e)⟩
theorem sm_wr {post : SX → Prop} {r : Nat} {v : Int32} (hr : r < 4) (h : post (ph, wh, sd, st, oc, sm_w rg r 3 v, pl, rh, wm, cw, sp, ol, rs)) : wpX_writeRegister post (ph, wh, sd, st, oc, rg, pl, rh, wm, cw, sp, ol, rs) (nI r) v := by
  have e := sm_wrL hr h 3 4 0 (by omega) (by omega)
  rw [sm_w0] at e
  exact ⟨4, e⟩
theorem sm_wpL {post : SX → Prop} {v : Int32} (h : post (ph, wh, sd, st, oc, rg, sm_fl pl 3 v, rh, wm, cw, sp, ol, rs)) :
    ∀ k n c, c + k = 3 → k < n → wX_writePlace_2 post v ph wh sd st oc n (nI c) rg (sm_fl pl c v) rh wm cw sp ol rs := by
  intro k
  induction k with
  | zero =>
    intro n c hc hn
    obtain ⟨m, rfl, hm⟩ := sm_succ hn
    obtain rfl : c = 3 := by omega
    exact br_t (nI_le (Nat.le_refl 3) (by omega)) h
  | succ k ih =>
    intro n c hc hn
    obtain ⟨m, rfl, hm⟩ := sm_succ hn
    have e := ih m (c + 1) (by omega) (by omega)
    have e2 : upd (sm_fl pl c v) (nI c).toNatClampNeg v = sm_fl pl (c + 1) v := by
      rw [nI_clamp (by omega), sm_fls]
    exact br_f (nI_ge (b := 3) (by omega) (by omega)) ⟨vp_in_nI (by omega) (by omega), nm_r e2 (nm_r (nI_1 c) e)⟩
theorem sm_wp {post : SX → Prop} {v : Int32} (h : post (ph, wh, sd, st, oc, rg, sm_fl pl 3 v, rh, wm, cw, sp, ol, rs)) : wpX_writePlace post (ph, wh, sd, st, oc, rg, pl, rh, wm, cw, sp, ol, rs) v := by
  have e := sm_wpL h 3 4 0 (by omega) (by omega)
  rw [sm_fl0] at e
  exact ⟨4, e⟩
theorem sm_vaL {post : SX → Prop} {yr hi : Nat → Int32} {y t : Int32}
    (R : ∀ r, r < 4 → sm_T (rg (r * 3)) (rg (r * 3 + 1)) (rg (r * 3 + 2)) (rh r) (yr r) (hi r)) (T : sm_T (pl 0) (pl 1) (pl 2) ph y t)
    (h : post (0, wh, sd, st, oc, sm_va rg yr 4, sm_fl pl 3 y, sm_fl rh 4 0, wm, cw, sp, ol, rs)) :
    ∀ k n r, r + k = 4 → k < n → wX_voteAll_2 post n (nI r) ph wh sd st oc (sm_va rg yr r) pl (sm_fl rh r 0) wm cw sp ol rs := by
  intro k
  induction k with
  | zero =>
    intro n r hr hn
    obtain ⟨m, rfl, hm⟩ := sm_succ hn
    obtain rfl : r = 4 := by omega
    exact br_t (nI_le (Nat.le_refl 4) (by omega)) (sm_vp T (sm_wp h))
  | succ k ih =>
    intro n r hr hn
    obtain ⟨m, rfl, hm⟩ := sm_succ hn
    have e := ih m (r + 1) (by omega) (by omega)
    have T' : sm_T (sm_va rg yr r (r * 3)) (sm_va rg yr r (r * 3 + 1)) (sm_va rg yr r (r * 3 + 2)) (rh r) (yr r) (hi r) := by
      have a0 : sm_va rg yr r (r * 3) = rg (r * 3) := if_neg (by omega)
      have a1 : sm_va rg yr r (r * 3 + 1) = rg (r * 3 + 1) := if_neg (by omega)
      have a2 : sm_va rg yr r (r * 3 + 2) = rg (r * 3 + 2) := if_neg (by omega)
      rw [a0, a1, a2]
      exact R r (by omega)
    have e2 : upd (sm_fl rh r 0) (nI r).toNatClampNeg (vp_nar .byte 0) = sm_fl rh (r + 1) 0 := by
      rw [nI_clamp (by omega), sm_ny0, sm_fls]
    refine br_f (nI_ge (b := 4) (by omega) (by omega)) (sm_vr (by omega) T' (sm_wr (by omega) ?_))
    rw [sm_vas]
    exact ⟨vp_in_nI (by omega) (by omega), nm_r e2 (nm_r (nI_1 r) e)⟩
theorem sm_vaW {post : SX → Prop} {yr hi : Nat → Int32} {y t : Int32}
    (R : ∀ r, r < 4 → sm_T (rg (r * 3)) (rg (r * 3 + 1)) (rg (r * 3 + 2)) (rh r) (yr r) (hi r)) (T : sm_T (pl 0) (pl 1) (pl 2) ph y t)
    (h : post (0, wh, sd, st, oc, sm_va rg yr 4, sm_fl pl 3 y, sm_fl rh 4 0, wm, cw, sp, ol, rs)) : wpX_voteAll post (ph, wh, sd, st, oc, rg, pl, rh, wm, cw, sp, ol, rs) := by
  have e := sm_vaL R T h 4 5 0 (by omega) (by omega)
  rw [sm_va0, sm_fl0] at e
  exact ⟨5, e⟩
theorem sm_wtL {post : Int32 → SX → Prop} {op n f t : Int32} {r s : Nat} {x y : Int32} (hr : r < 4) (hs : s < 4)
    (R : ∀ c, c < 3 → rg (r * 3 + c) = x) (S : ∀ c, c < 3 → rg (s * 3 + c) = y) (T : sm_T (wm 0) (wm 1) (wm 2) wh 0 t)
    (W : ∀ post : Int32 → Prop, post f → wpX_workOut post op x y n) (h : post f (ph, wh, sd, st, oc, rg, pl, rh, wm, cw, sp, ol, sm_rs rs wm f 3)) :
    ∀ k m c, c + k = 3 → k < m → wX_workThrice_3 post op (nI r) (nI s) n ph wh sd st oc m (nI c) rg pl rh wm cw sp ol (sm_rs rs wm f c) := by
  intro k
  induction k with
  | zero =>
    intro n c hc hn
    obtain ⟨m, rfl, hm⟩ := sm_succ hn
    obtain rfl : c = 3 := by omega
    refine br_t (nI_le (Nat.le_refl 3) (by omega)) ?_
    have e3 : sm_vo (sm_rs rs wm f 3 0) (sm_rs rs wm f 3 1) (sm_rs rs wm f 3 2) = f := sm_T_x f T
    unfold sm_vo at e3
    unfold wpX_vote
    rw [e3]
    exact h
  | succ k ih =>
    intro n c hc hn
    obtain ⟨m, rfl, hm⟩ := sm_succ hn
    have e := ih m (c + 1) (by omega) (by omega)
    have er : nI r * 3 + nI c = nI (r * 3 + c) := by
      have e : nI r * 3 = nI (r * 3) := pk_mul r 3
      rw [e, nI_add]
    have es : nI s * 3 + nI c = nI (s * 3 + c) := by
      have e : nI s * 3 = nI (s * 3) := pk_mul s 3
      rw [e, nI_add]
    have e2 : upd (sm_rs rs wm f c) (nI c).toNatClampNeg (f ^^^ wm (nI c).toNatClampNeg) = sm_rs rs wm f (c + 1) := by
      rw [nI_clamp (by omega), sm_rss]
    have ex : rg (nI r * 3 + nI c).toNatClampNeg = x := by rw [er, nI_clamp (by omega)]; exact R c (by omega)
    have ey : rg (nI s * 3 + nI c).toNatClampNeg = y := by rw [es, nI_clamp (by omega)]; exact S c (by omega)
    refine br_f (nI_ge (b := 3) (by omega) (by omega)) ⟨by rw [er]; exact vp_in_nI (by omega) (by omega), by rw [es]; exact vp_in_nI (by omega) (by omega), ?_⟩
    rw [ex, ey]
    exact W _ ⟨vp_in_nI (by omega) (by omega), vp_in_nI (by omega) (by omega), nm_r e2 (nm_r (nI_1 c) e)⟩
theorem sm_wt {post : Int32 → SX → Prop} {op n f t : Int32} {r s : Nat} {x y : Int32} (hr : r < 4) (hs : s < 4)
    (R : ∀ c, c < 3 → rg (r * 3 + c) = x) (S : ∀ c, c < 3 → rg (s * 3 + c) = y) (T : sm_T (wm 0) (wm 1) (wm 2) wh 0 t)
    (W : ∀ post : Int32 → Prop, post f → wpX_workOut post op x y n) (h : post f (ph, wh, sd, st, oc, rg, pl, rh, wm, cw, sp, ol, sm_rs rs wm f 3)) : wpX_workThrice post (ph, wh, sd, st, oc, rg, pl, rh, wm, cw, sp, ol, rs) op (nI r) (nI s) n := by
  have e := sm_wtL hr hs R S T W h 3 4 0 (by omega) (by omega)
  rw [sm_rs0] at e
  exact ⟨4, e⟩
theorem sm_ptL {post : Int32 → SX → Prop} {f t : Int32} (T : sm_T (wm 0) (wm 1) (wm 2) wh 0 t) (h : post f (ph, wh, sd, st, oc, rg, pl, rh, wm, cw, sp, ol, sm_rs rs wm f 3)) :
    ∀ k m c, c + k = 3 → k < m → wX_passThrice_2 post f ph wh sd st oc m (nI c) rg pl rh wm cw sp ol (sm_rs rs wm f c) := by
  intro k
  induction k with
  | zero =>
    intro n c hc hn
    obtain ⟨m, rfl, hm⟩ := sm_succ hn
    obtain rfl : c = 3 := by omega
    refine br_t (nI_le (Nat.le_refl 3) (by omega)) ?_
    have e3 : sm_vo (sm_rs rs wm f 3 0) (sm_rs rs wm f 3 1) (sm_rs rs wm f 3 2) = f := sm_T_x f T
    unfold sm_vo at e3
    unfold wpX_vote
    rw [e3]
    exact h
  | succ k ih =>
    intro n c hc hn
    obtain ⟨m, rfl, hm⟩ := sm_succ hn
    have e := ih m (c + 1) (by omega) (by omega)
    have e2 : upd (sm_rs rs wm f c) (nI c).toNatClampNeg (f ^^^ wm (nI c).toNatClampNeg) = sm_rs rs wm f (c + 1) := by
      rw [nI_clamp (by omega), sm_rss]
    exact br_f (nI_ge (b := 3) (by omega) (by omega)) ⟨vp_in_nI (by omega) (by omega), vp_in_nI (by omega) (by omega), nm_r e2 (nm_r (nI_1 c) e)⟩
theorem sm_pt {post : Int32 → SX → Prop} {f t : Int32} (T : sm_T (wm 0) (wm 1) (wm 2) wh 0 t) (h : post f (ph, wh, sd, st, oc, rg, pl, rh, wm, cw, sp, ol, sm_rs rs wm f 3)) : wpX_passThrice post (ph, wh, sd, st, oc, rg, pl, rh, wm, cw, sp, ol, rs) f := by
  have e := sm_ptL T h 3 4 0 (by omega) (by omega)
  rw [sm_rs0] at e
  exact ⟨4, e⟩
end
end
section
/-! the relation: ghost numbers val (what each word holds), reg (registers), a (place), d (steps done), m (outs) -/
def sm_u (f : Nat → Nat) (k x : Nat) : Nat → Nat := fun j => if j = k then x else f j
theorem sm_us {f : Nat → Nat} {k x : Nat} : sm_u f k x k = x := if_pos rfl
theorem sm_un {f : Nat → Nat} {k x j : Nat} (h : j ≠ k) : sm_u f k x j = f j := if_neg h
/-- registers, three copies each, against the reference's -/
def sm_Rg (reg : Nat → Nat) (rg rh yr hi : Nat → Int32) : Prop :=
  ∀ r, r < 4 → reg r < 256 ∧ yr r = nI (reg r) ∧ sm_T (rg (r * 3)) (rg (r * 3 + 1)) (rg (r * 3 + 2)) (rh r) (yr r) (hi r)
/-- registers whose copies all agree -/
def sm_Cl (reg : Nat → Nat) (rg yr : Nat → Int32) : Prop :=
  ∀ r, r < 4 → reg r < 256 ∧ yr r = nI (reg r) ∧ ∀ c, c < 3 → rg (r * 3 + c) = nI (reg r)
/-- words -/
def sm_Wd (cw sp : Nat → Int32) (val : Nat → Nat) : Prop :=
  ∀ w, w < 48 → sm_okv (sm_P w) (val w) ∧ sm_WD (sm_P w) (val w) (cw w) (sp w)
/-- the reference's program and cells -/
def sm_Yp (val : Nat → Nat) (op tg nu ce : Nat → Int32) : Prop :=
  (∀ w, w < 32 → val w % 16 ≤ 13 ∧ op w = nI (val w % 16) ∧ tg w = nI (val w / 16 % 4) ∧ nu w = nI (val w / 64)) ∧ (∀ c, c < 16 → ce c = nI (val (32 + c)))
def sm_Ot (m : Nat) (ol pa : Nat → Int32) : Prop := ∀ i, i < m → ol i &&& 255 = pa i
def sm_R (val reg : Nat → Nat) (a d m : Nat) (u : SX) (v : SY) : Prop := match u, v with
  | (ph, wh, sd, st, oc, rg, pl, rh, wm, cw, sp, ol, rs), (ta, sh, hl, dn, yr, ce, op, tg, nu, pa, ys, hi) =>
    (sd = nI (d % 48) ∧ oc = nI m ∧ ta = nI a ∧ sh = nI m ∧ hl = st ∧ dn = nI d ∧ ys = sp) ∧ (st = 0 ∨ st = 1) ∧ m ≤ 16 ∧ a < 32 ∧
    sm_Rg reg rg rh yr hi ∧ sm_T (pl 0) (pl 1) (pl 2) ph ta (hi 4) ∧ sm_T (wm 0) (wm 1) (wm 2) wh 0 (hi 5) ∧ sm_Wd cw sp val ∧ sm_Yp val op tg nu ce ∧ sm_Ot m ol pa
theorem sm_el {val reg : Nat → Nat} {a d m : Nat} {u : SX} {v : SY} {P : SX → SY → Prop}
    (H : ∀ (ph wh st : Int32) (rg pl rh wm cw sp ol rs yr ce op tg nu pa hi : Nat → Int32), (st = 0 ∨ st = 1) → m ≤ 16 → a < 32 →
      sm_Rg reg rg rh yr hi → sm_T (pl 0) (pl 1) (pl 2) ph (nI a) (hi 4) → sm_T (wm 0) (wm 1) (wm 2) wh 0 (hi 5) → sm_Wd cw sp val → sm_Yp val op tg nu ce → sm_Ot m ol pa →
      P (ph, wh, nI (d % 48), st, nI m, rg, pl, rh, wm, cw, sp, ol, rs) (nI a, nI m, st, nI d, yr, ce, op, tg, nu, pa, sp, hi))
    (I : sm_R val reg a d m u v) : P u v := by
  obtain ⟨ph, wh, sd, st, oc, rg, pl, rh, wm, cw, sp, ol, rs⟩ := u
  obtain ⟨ta, sh, hl, dn, yr, ce, op, tg, nu, pa, ys, hi⟩ := v
  obtain ⟨⟨rfl, rfl, rfl, rfl, rfl, rfl, rfl⟩, h1, h2, h3, h4, h5, h6, h7, h8, h9⟩ := I
  exact H _ _ _ _ _ _ _ _ _ _ _ _ _ _ _ _ _ _ h1 h2 h3 h4 h5 h6 h7 h8 h9
section
variable {ph wh st : Int32} {rg pl rh wm cw sp ol rs yr ce op tg nu pa hi : Nat → Int32} {val reg : Nat → Nat} {a d m : Nat}
theorem sm_in (h1 : st = 0 ∨ st = 1) (h2 : m ≤ 16) (h3 : a < 32) (h4 : sm_Rg reg rg rh yr hi) (h5 : sm_T (pl 0) (pl 1) (pl 2) ph (nI a) (hi 4)) (h6 : sm_T (wm 0) (wm 1) (wm 2) wh 0 (hi 5))
    (h7 : sm_Wd cw sp val) (h8 : sm_Yp val op tg nu ce) (h9 : sm_Ot m ol pa) :
    sm_R val reg a d m (ph, wh, nI (d % 48), st, nI m, rg, pl, rh, wm, cw, sp, ol, rs) (nI a, nI m, st, nI d, yr, ce, op, tg, nu, pa, sp, hi) :=
  ⟨⟨rfl, rfl, rfl, rfl, rfl, rfl, rfl⟩, h1, h2, h3, h4, h5, h6, h7, h8, h9⟩
theorem sm_Cl_va (R : sm_Rg reg rg rh yr hi) : sm_Cl reg (sm_va rg yr 4) yr := by
  intro r hr
  obtain ⟨h1, h2, h3⟩ := R r hr
  refine ⟨h1, h2, fun c hc => ?_⟩
  have e : sm_va rg yr 4 (r * 3 + c) = yr ((r * 3 + c) / 3) := if_pos (by omega)
  have e2 : (r * 3 + c) / 3 = r := by omega
  rw [e, e2, h2]
theorem sm_Cl_w {r q : Nat} (C : sm_Cl reg rg yr) (hr : r < 4) (hq : q < 256) : sm_Cl (sm_u reg r q) (sm_w rg r 3 (nI q)) (upd yr r (nI q)) := by
  intro s hs
  obtain ⟨h1, h2, h3⟩ := C s hs
  by_cases z : s = r
  · subst z
    rw [sm_us, pk_us]
    exact ⟨hq, rfl, fun c hc => if_pos (by omega)⟩
  · rw [sm_un z, pk_un z]
    refine ⟨h1, h2, fun c hc => ?_⟩
    have e : sm_w rg r 3 (nI q) (s * 3 + c) = rg (s * 3 + c) := if_neg (by omega)
    rw [e]
    exact h3 c hc
theorem sm_Cl_y {r : Nat} (C : sm_Cl reg rg yr) (hr : r < 4) : sm_Cl reg rg (upd yr r (nI (reg r))) := by
  intro s hs
  obtain ⟨h1, h2, h3⟩ := C s hs
  refine ⟨h1, ?_, h3⟩
  by_cases z : s = r
  · subst z; exact pk_us
  · rw [pk_un z]; exact h2
theorem sm_Cl_R (C : sm_Cl reg rg yr) (Z : ∀ r, r < 4 → rh r = 0) (Y : ∀ r, r < 4 → hi r = 0) : sm_Rg reg rg rh yr hi := by
  intro r hr
  obtain ⟨h1, h2, h3⟩ := C r hr
  exact ⟨h1, h2, sm_T0 (by rw [h2]; exact h3 0 (by omega)) (by rw [h2]; exact h3 1 (by omega)) (by rw [h2]; exact h3 2 (by omega)) (Z r hr) (Y r hr)⟩
theorem sm_Wd_rep {w : Nat} (K : sm_Wd cw sp val) (hw : w < 48) : sm_Wd (upd cw w (nI (sm_enc (sm_P w) (val w)))) (upd sp w 0) val := by
  intro x hx
  obtain ⟨h1, h2⟩ := K x hx
  refine ⟨h1, ?_⟩
  by_cases z : x = w
  · subst z; rw [pk_us, pk_us]; exact Or.inl ⟨rfl, rfl⟩
  · rw [pk_un z, pk_un z]; exact h2
theorem sm_Wd_wr {w v : Nat} (K : sm_Wd cw sp val) (hw : w < 48) (hv : sm_okv (sm_P w) v) : sm_Wd (upd cw w (nI (sm_enc (sm_P w) v))) (upd sp w 0) (sm_u val w v) := by
  intro x hx
  obtain ⟨h1, h2⟩ := K x hx
  by_cases z : x = w
  · subst z; rw [pk_us, pk_us, sm_us]; exact ⟨hv, Or.inl ⟨rfl, rfl⟩⟩
  · rw [pk_un z, pk_un z, sm_un z]; exact ⟨h1, h2⟩
theorem sm_Wd_hit {w b : Nat} (K : sm_Wd cw sp val) (hw : w < 48) (hb : b < sm_P w) (z0 : sp w = 0) : sm_Wd (upd cw w (cw w ^^^ ((1 : Int32) <<< (nI b &&& 31)))) (upd sp w 1) val := by
  intro x hx
  obtain ⟨h1, h2⟩ := K x hx
  refine ⟨h1, ?_⟩
  by_cases z : x = w
  · subst z
    rw [pk_us, pk_us]
    refine Or.inr ⟨rfl, b, hb, ?_⟩
    have hp := (sm_okP h1).1
    rcases h2 with ⟨_, e⟩ | ⟨e, _⟩
    · rw [e]
      show nI _ ^^^ (nI 1 <<< (nI b &&& 31)) = _
      rw [sm_shl 1 (by omega), nx_xor]
    · rw [z0] at e
      exact absurd e (by decide)
  · rw [pk_un z, pk_un z]; exact h2
theorem sm_P22 {w : Nat} (h : w < 32) : sm_P w = 22 := if_pos h
theorem sm_P13 {w : Nat} (h : 32 ≤ w) : sm_P w = 13 := if_neg (by omega)
theorem sm_Wv {w : Nat} (K : sm_Wd cw sp val) (hw : w < 32) : val w < 16384 := by
  have h := (K w (by omega)).1
  rw [sm_P22 hw] at h
  rcases h with ⟨_, h⟩ | ⟨z, _⟩
  · exact h
  · omega
theorem sm_Wc {w : Nat} (K : sm_Wd cw sp val) (h32 : 32 ≤ w) (hw : w < 48) : val w < 256 := by
  have h := (K w (by omega)).1
  rw [sm_P13 h32] at h
  rcases h with ⟨z, _⟩ | ⟨_, h⟩
  · omega
  · exact h
theorem sm_ok13 {w q : Nat} (h : 32 ≤ w) (hq : q < 256) : sm_okv (sm_P w) q := Or.inr ⟨sm_P13 h, hq⟩
theorem sm_ok22 {w q : Nat} (h : w < 32) (hq : q < 16384) : sm_okv (sm_P w) q := Or.inl ⟨sm_P22 h, hq⟩
theorem sm_Yp_c {c q : Nat} (Y : sm_Yp val op tg nu ce) (hc : c < 16) : sm_Yp (sm_u val (32 + c) q) op tg nu (upd ce c (nI q)) := by
  refine ⟨fun w hw => ?_, fun x hx => ?_⟩
  · rw [sm_un (by omega)]; exact Y.1 w hw
  · by_cases z : x = c
    · subst z; rw [pk_us, sm_us]
    · rw [pk_un z, sm_un (by omega)]; exact Y.2 x hx
theorem sm_Yp_s {w o r n q : Nat} (Y : sm_Yp val op tg nu ce) (hw : w < 32) (ho : o ≤ 13) (hr : r < 4) (hq : q = o + 16 * r + 64 * n) :
    sm_Yp (sm_u val w q) (upd op w (nI o)) (upd tg w (nI r)) (upd nu w (nI n)) ce := by
  refine ⟨fun x hx => ?_, fun x hx => ?_⟩
  · by_cases z : x = w
    · subst z
      have e1 : q % 16 = o := by omega
      have e2 : q / 16 % 4 = r := by omega
      have e3 : q / 64 = n := by omega
      rw [pk_us, pk_us, pk_us, sm_us, e1, e2, e3]
      exact ⟨ho, rfl, rfl, rfl⟩
    · rw [pk_un z, pk_un z, pk_un z, sm_un z]; exact Y.1 x hx
  · rw [sm_un (by omega)]; exact Y.2 x hx
theorem sm_Ot_p {q : Nat} (O : sm_Ot m ol pa) (hq : q < 256) : sm_Ot (m + 1) (upd ol m (vp_nar .byte (nI q).toInt8.toInt32)) (upd pa m (nI q)) := by
  intro i hi
  by_cases z : i = m
  · subst z
    rw [pk_us, pk_us, pk_vb, bp_b, pk_andN (by omega) 8 (by decide)]
    exact congrArg nI (by omega)
  · rw [pk_un z, pk_un z]; exact O i (by omega)
end
end
section
/-! the component's step: its end, its opening, one lemma an operation -/
section
variable {ph wh sd st oc : Int32} {rg pl rh wm cw sp ol rs yr hi : Nat → Int32} {val reg : Nat → Nat} {a d m on r n : Nat}
theorem sm_128L {post : SX → Prop} (K : sm_Wd cw sp val)
    (h : post (ph, 0, nI ((d + 1) % 48), st, oc, rg, pl, rh, sm_fl wm 3 0, upd cw (d % 48) (nI (sm_enc (sm_P (d % 48)) (val (d % 48)))), upd sp (d % 48) 0, ol, rs)) :
    ∀ k n c, c + k = 3 → k < n → wX_step_128 post ph wh (nI (d % 48)) st oc n (nI c) rg pl rh (sm_fl wm c 0) cw sp ol rs := by
  intro k
  induction k with
  | zero =>
    intro n c hc hn
    obtain ⟨m, rfl, hm⟩ := sm_succ hn
    obtain rfl : c = 3 := by omega
    have hw : d % 48 < 48 := Nat.mod_lt _ (by decide)
    have e1 : nI (d % 48) - nI (d % 48) / 48 * 48 = nI (d % 48) := by
      have z := pk_rem (a := d % 48) (d := 48) (by omega) (by omega) (by omega)
      rw [Nat.mod_mod] at z
      exact z
    have e2 : nI (d % 48) + 1 - (nI (d % 48) + 1) / 48 * 48 = nI ((d + 1) % 48) := by
      have z := pk_rem (a := d % 48 + 1) (d := 48) (by omega) (by omega) (by omega)
      rw [nI_1]
      have q : (d % 48 + 1) % 48 = (d + 1) % 48 := by omega
      rw [q] at z
      exact z
    refine br_t (nI_le (Nat.le_refl 3) (by omega)) ⟨by decide, ?_⟩
    rw [e1]
    exact sm_rp hw (K _ hw).1 (K _ hw).2 ⟨by decide, nm_r e2 h⟩
  | succ k ih =>
    intro n c hc hn
    obtain ⟨m, rfl, hm⟩ := sm_succ hn
    have e := ih m (c + 1) (by omega) (by omega)
    have e2 : upd (sm_fl wm c 0) (nI c).toNatClampNeg 0 = sm_fl wm (c + 1) 0 := by
      rw [nI_clamp (by omega), sm_fls]
    exact br_f (nI_ge (b := 3) (by omega) (by omega)) ⟨vp_in_nI (by omega) (by omega), nm_r e2 (nm_r (nI_1 c) e)⟩
theorem sm_119 {post : SX → Prop} (K : sm_Wd cw sp val)
    (h : post (ph, 0, nI ((d + 1) % 48), st, oc, rg, sm_fl pl 3 (nI on), rh, sm_fl wm 3 0, upd cw (d % 48) (nI (sm_enc (sm_P (d % 48)) (val (d % 48)))), upd sp (d % 48) 0, ol, rs)) :
    wX_step_119 post (nI on) ph wh (nI (d % 48)) st oc rg pl rh wm cw sp ol rs := by
  unfold wX_step_119
  refine sm_wp ?_
  have e := sm_128L (wh := wh) K h 3 4 0 (by omega) (by omega)
  rw [sm_fl0] at e
  exact ⟨4, e⟩
/-- the opening: votes, the place, the step's word -/
theorem sm_xs {post : SX → Prop} {v : Nat} (R : sm_Rg reg rg rh yr hi) {t : Int32} (T : sm_T (pl 0) (pl 1) (pl 2) ph (nI a) t) (K : sm_Wd cw sp val) (ha : a < 32) (hv : v = val a)
    (h1 : v % 16 ≤ 3 ∨ 12 ≤ v % 16 → wX_step_56 post (nI a) (nI (v % 16)) (nI (v / 16 % 4)) (nI (v / 64)) (nI ((a + 1) % 32)) 0 wh sd st oc (sm_va rg yr 4) (sm_fl pl 3 (nI a)) (sm_fl rh 4 0) wm (upd cw a (nI (sm_enc (sm_P a) v))) (upd sp a 0) ol rs)
    (h2 : 9 ≤ v % 16 → v % 16 ≤ 11 → wpX_stepOn (fun q u => match u with | (ph, wh, sd, st, oc, rg, pl, rh, wm, cw, sp, ol, rs) => wX_step_119 post q ph wh sd st oc rg pl rh wm cw sp ol rs) (0, wh, sd, st, oc, sm_va rg yr 4, sm_fl pl 3 (nI a), sm_fl rh 4 0, wm, upd cw a (nI (sm_enc (sm_P a) v)), upd sp a 0, ol, rs) (nI (v % 16)) (nI (v / 16 % 4)) (nI (v / 64)) (nI a) (nI ((a + 1) % 32)))
    (h3 : 4 ≤ v % 16 → v % 16 ≤ 8 → wpX_workThrice (fun q u => match u with | (ph, wh, sd, st, oc, rg, pl, rh, wm, cw, sp, ol, rs) => wpX_writeRegister (fun u => match u with | (ph, wh, sd, st, oc, rg, pl, rh, wm, cw, sp, ol, rs) => wX_step_119 post (nI ((a + 1) % 32)) ph wh sd st oc rg pl rh wm cw sp ol rs) (ph, wh, sd, st, oc, rg, pl, rh, wm, cw, sp, ol, rs) (nI (v / 16 % 4)) q) (0, wh, sd, st, oc, sm_va rg yr 4, sm_fl pl 3 (nI a), sm_fl rh 4 0, wm, upd cw a (nI (sm_enc (sm_P a) v)), upd sp a 0, ol, rs) (nI (v % 16)) (nI (v / 16 % 4)) (nI (v / 64) &&& 3) (nI (v / 64))) :
    wpX_step post (ph, wh, sd, st, oc, rg, pl, rh, wm, cw, sp, ol, rs) := by
  have hlt := sm_Wv K ha
  rw [← hv] at hlt
  obtain ⟨k1, k2⟩ := K a (by omega)
  rw [← hv] at k1 k2
  have e3 : nI v &&& 15 = nI (v % 16) := pk_andN (by omega) 4 (by decide)
  have e4 : (nI v >>> ((4 : Int32) &&& 31)) &&& 3 = nI (v / 16 % 4) := by
    rw [pk_shrN (by omega) _ 4 (by decide), pk_andN (by omega) 2 (by decide)]
  have e5 : (nI v >>> ((6 : Int32) &&& 31)) &&& 255 = nI (v / 64) := by
    rw [pk_shrN (by omega) _ 6 (by decide), pk_andN (by omega) 8 (by decide)]
    exact congrArg nI (by omega)
  have e6 : (nI a + 1) &&& 31 = nI ((a + 1) % 32) := by
    rw [nI_1, pk_andN (by omega) 5 (by decide)]
  unfold wpX_step
  refine sm_vaW (fun r hr => (R r hr).2.2) T ?_
  refine sm_vp (y := nI a) (x := 0) (t := 0) (sm_T0 (sm_flt (by omega)) (sm_flt (by omega)) (sm_flt (by omega)) rfl rfl) ?_
  refine sm_rr (by omega) k1 k2 ?_
  refine nm_r e3 (nm_r e4 (nm_r e5 (nm_r e6 ?_)))
  by_cases z3 : v % 16 ≤ 3
  · exact br_t (nI_le (b := 3) z3 (by omega)) (h1 (Or.inl z3))
  refine br_f (nI_ge (a := 3) (by omega) (by omega)) ?_
  by_cases z12 : v % 16 < 12
  · refine br_t (nI_lt (b := 12) z12 (by omega)) ?_
    by_cases z8 : 8 < v % 16
    · exact br_t (nI_lt (a := 8) z8 (by omega)) (h2 (by omega) (by omega))
    · exact br_f (nI_nlt (a := 8) (by omega) (by omega)) (h3 (by omega) (by omega))
  · exact br_f (nI_nlt (b := 12) (by omega) (by omega)) (h1 (Or.inr (by omega)))
theorem sm_Tc {r : Nat} (C : sm_Cl reg rg yr) (hr : r < 4) : sm_T (rg (r * 3)) (rg (r * 3 + 1)) (rg (r * 3 + 2)) 0 (nI (reg r)) 0 :=
  sm_T0 ((C r hr).2.2 0 (by omega)) ((C r hr).2.2 1 (by omega)) ((C r hr).2.2 2 (by omega)) rfl rfl
theorem sm_x0 {post : SX → Prop} (h : wX_step_119 post (nI a) ph wh sd 1 oc rg pl rh wm cw sp ol rs) : wX_step_56 post (nI a) (nI 0) (nI r) (nI n) (nI on) ph wh sd st oc rg pl rh wm cw sp ol rs := by
  unfold wX_step_56 wpX_stepWithCells
  exact br_t rfl h
theorem sm_a3 {n : Nat} (hn : n < 256) : nI n &&& 3 = nI (n % 4) := pk_andN (by omega) 2 (by decide)
theorem sm_a15 {n : Nat} (hn : n < 256) : nI n &&& 15 = nI (n % 16) := pk_andN (by omega) 4 (by decide)
theorem sm_a31 {n : Nat} (hn : n < 256) : nI n &&& 31 = nI (n % 32) := pk_andN (by omega) 5 (by decide)
theorem sm_x1 {post : SX → Prop} {t : Int32} (C : sm_Cl reg rg yr) (T : sm_T (wm 0) (wm 1) (wm 2) wh 0 t) (hr : r < 4) (hn : n < 256)
    (h : wX_step_119 post (nI on) ph wh sd st oc (sm_w rg r 3 (nI n)) pl rh wm cw sp ol (sm_rs rs wm (nI n) 3)) : wX_step_56 post (nI a) (nI 1) (nI r) (nI n) (nI on) ph wh sd st oc rg pl rh wm cw sp ol rs := by
  unfold wX_step_56 wpX_stepWithCells
  refine br_f (by decide) (nm_r (sm_a3 hn) (br_f (by decide) (br_f (by decide) ?_)))
  unfold wX_stepWithCells_45
  exact br_t rfl (sm_wt hr (by omega) (C r hr).2.2 (C (n % 4) (by omega)).2.2 T (fun p hp => sm_wo1 hp) (sm_wr hr h))
/-- the cell read, once its number is known -/
theorem sm_x84 {post : SX → Prop} {t : Int32} {c : Nat} (T : sm_T (wm 0) (wm 1) (wm 2) wh 0 t) (K : sm_Wd cw sp val) (hr : r < 4) (hc : c < 16)
    (h : wX_step_119 post (nI on) ph wh sd st oc (sm_w rg r 3 (nI (val (32 + c)))) pl rh wm (upd cw (32 + c) (nI (sm_enc (sm_P (32 + c)) (val (32 + c))))) (upd sp (32 + c) 0) ol (sm_rs rs wm (nI (val (32 + c))) 3)) :
    wX_stepWithCells_84 (fun q u => match u with | (ph, wh, sd, st, oc, rg, pl, rh, wm, cw, sp, ol, rs) => wX_step_119 post q ph wh sd st oc rg pl rh wm cw sp ol rs) (nI r) (nI on) (nI c) ph wh sd st oc rg pl rh wm cw sp ol rs := by
  unfold wX_stepWithCells_84
  have e : 32 + nI c = nI (32 + c) := nI_add 32 c
  rw [e]
  exact sm_rr (by omega) (K (32 + c) (by omega)).1 (K (32 + c) (by omega)).2 (sm_pt T (sm_wr hr h))
theorem sm_x2 {post : SX → Prop} {t : Int32} (T : sm_T (wm 0) (wm 1) (wm 2) wh 0 t) (K : sm_Wd cw sp val) (hr : r < 4) (hn : n < 256) {c : Nat} (hc : c = n % 16)
    (h : wX_step_119 post (nI on) ph wh sd st oc (sm_w rg r 3 (nI (val (32 + c)))) pl rh wm (upd cw (32 + c) (nI (sm_enc (sm_P (32 + c)) (val (32 + c))))) (upd sp (32 + c) 0) ol (sm_rs rs wm (nI (val (32 + c))) 3)) :
    wX_step_56 post (nI a) (nI 2) (nI r) (nI n) (nI on) ph wh sd st oc rg pl rh wm cw sp ol rs := by
  unfold wX_step_56 wpX_stepWithCells
  refine br_f (by decide) (nm_r (sm_a3 hn) (br_f (by decide) (br_f (by decide) ?_)))
  unfold wX_stepWithCells_45
  rw [sm_a15 hn, ← hc]
  exact br_f (by decide) (br_t rfl (sm_x84 T K hr (by omega) h))
theorem sm_x12 {post : SX → Prop} {t : Int32} (C : sm_Cl reg rg yr) (T : sm_T (wm 0) (wm 1) (wm 2) wh 0 t) (K : sm_Wd cw sp val) (hr : r < 4) (hn : n < 256) {c : Nat} (hc : c = reg (n % 4) % 16)
    (h : wX_step_119 post (nI on) ph wh sd st oc (sm_w rg r 3 (nI (val (32 + c)))) pl rh wm (upd cw (32 + c) (nI (sm_enc (sm_P (32 + c)) (val (32 + c))))) (upd sp (32 + c) 0) ol (sm_rs rs wm (nI (val (32 + c))) 3)) :
    wX_step_56 post (nI a) (nI 12) (nI r) (nI n) (nI on) ph wh sd st oc rg pl rh wm cw sp ol rs := by
  have hs : n % 4 < 4 := Nat.mod_lt _ (by decide)
  unfold wX_step_56 wpX_stepWithCells
  refine br_f (by decide) (nm_r (sm_a3 hn) (br_t rfl ?_))
  unfold wX_stepWithCells_29
  refine sm_vr hs (sm_Tc C hs) ?_
  unfold wX_stepWithCells_45
  rw [sm_a15 (C _ hs).1, ← hc]
  exact br_f (by decide) (br_f (by decide) (br_t rfl (sm_x84 T K hr (by omega) h)))
theorem sm_x3 {post : SX → Prop} {t : Int32} (C : sm_Cl reg rg yr) (T : sm_T (wm 0) (wm 1) (wm 2) wh 0 t) (hr : r < 4) (hn : n < 256) {c : Nat} (hc : c = n % 16)
    (h : wX_step_119 post (nI on) ph wh sd st oc rg pl rh wm (upd cw (32 + c) (nI (sm_enc (sm_P (32 + c)) (reg r)))) (upd sp (32 + c) 0) ol (sm_rs rs wm (nI (reg r)) 3)) :
    wX_step_56 post (nI a) (nI 3) (nI r) (nI n) (nI on) ph wh sd st oc rg pl rh wm cw sp ol rs := by
  unfold wX_step_56 wpX_stepWithCells
  refine br_f (by decide) (nm_r (sm_a3 hn) (br_f (by decide) (br_f (by decide) ?_)))
  unfold wX_stepWithCells_45
  have e : 32 + nI c = nI (32 + c) := nI_add 32 c
  rw [sm_a15 hn, ← hc, e]
  exact br_f (by decide) (br_f (by decide) (br_f (by decide) (sm_vr hr (sm_Tc C hr) (sm_pt T (sm_ww (by omega) (sm_ok13 (by omega) (C r hr).1) h)))))
theorem sm_x13 {post : SX → Prop} {t : Int32} (C : sm_Cl reg rg yr) (T : sm_T (wm 0) (wm 1) (wm 2) wh 0 t) (hr : r < 4) (hn : n < 256) {c : Nat} (hc : c = reg (n % 4) % 16)
    (h : wX_step_119 post (nI on) ph wh sd st oc rg pl rh wm (upd cw (32 + c) (nI (sm_enc (sm_P (32 + c)) (reg r)))) (upd sp (32 + c) 0) ol (sm_rs rs wm (nI (reg r)) 3)) :
    wX_step_56 post (nI a) (nI 13) (nI r) (nI n) (nI on) ph wh sd st oc rg pl rh wm cw sp ol rs := by
  have hs : n % 4 < 4 := Nat.mod_lt _ (by decide)
  unfold wX_step_56 wpX_stepWithCells
  refine br_f (by decide) (nm_r (sm_a3 hn) (br_f (by decide) (br_t rfl ?_)))
  unfold wX_stepWithCells_29
  refine sm_vr hs (sm_Tc C hs) ?_
  unfold wX_stepWithCells_45
  have e : 32 + nI c = nI (32 + c) := nI_add 32 c
  rw [sm_a15 (C _ hs).1, ← hc, e]
  exact br_f (by decide) (br_f (by decide) (br_f (by decide) (sm_vr hr (sm_Tc C hr) (sm_pt T (sm_ww (by omega) (sm_ok13 (by omega) (C r hr).1) h)))))
theorem sm_x4 {post : SX → Prop} {t : Int32} {o : Nat} (C : sm_Cl reg rg yr) (T : sm_T (wm 0) (wm 1) (wm 2) wh 0 t) (hr : r < 4) (hn : n < 256) (ho : 4 ≤ o) (ho8 : o ≤ 8)
    (h : wX_step_119 post (nI on) ph wh sd st oc (sm_w rg r 3 (nI (sm_ca o (reg r) (reg (n % 4)) n))) pl rh wm cw sp ol (sm_rs rs wm (nI (sm_ca o (reg r) (reg (n % 4)) n)) 3)) :
    wpX_workThrice (fun q u => match u with | (ph, wh, sd, st, oc, rg, pl, rh, wm, cw, sp, ol, rs) => wpX_writeRegister (fun u => match u with | (ph, wh, sd, st, oc, rg, pl, rh, wm, cw, sp, ol, rs) => wX_step_119 post (nI on) ph wh sd st oc rg pl rh wm cw sp ol rs) (ph, wh, sd, st, oc, rg, pl, rh, wm, cw, sp, ol, rs) (nI r) q) (ph, wh, sd, st, oc, rg, pl, rh, wm, cw, sp, ol, rs) (nI o) (nI r) (nI n &&& 3) (nI n) := by
  have hs : n % 4 < 4 := Nat.mod_lt _ (by decide)
  rw [sm_a3 hn]
  exact sm_wt hr hs (C r hr).2.2 (C _ hs).2.2 T (fun p hp => sm_wo ho ho8 (C r hr).1 (C _ hs).1 hp) (sm_wr hr h)
theorem sm_x9 {post : SX → Prop} {t : Int32} (C : sm_Cl reg rg yr) (T : sm_T (wm 0) (wm 1) (wm 2) wh 0 t) (hr : r < 4) (hn : n < 256)
    (h : wX_step_119 post (nI (n % 32)) ph wh sd st oc rg pl rh wm cw sp ol (sm_rs rs wm (nI (n % 32)) 3)) :
    wpX_stepOn (fun q u => match u with | (ph, wh, sd, st, oc, rg, pl, rh, wm, cw, sp, ol, rs) => wX_step_119 post q ph wh sd st oc rg pl rh wm cw sp ol rs) (ph, wh, sd, st, oc, rg, pl, rh, wm, cw, sp, ol, rs) (nI 9) (nI r) (nI n) (nI a) (nI on) := by
  unfold wpX_stepOn
  refine br_t rfl (sm_wt (f := nI (n % 32)) hr hr (C r hr).2.2 (C r hr).2.2 T (fun p hp => sm_wo9 (by rw [sm_a31 hn]; exact hp)) ?_)
  have e : nI (n % 32) &&& 31 = nI (n % 32) := by
    rw [sm_a31 (by omega)]
    exact congrArg nI (by omega)
  dsimp only
  rw [e]
  exact h
theorem sm_x10z {post : SX → Prop} {t : Int32} (C : sm_Cl reg rg yr) (T : sm_T (wm 0) (wm 1) (wm 2) wh 0 t) (hr : r < 4) (hn : n < 256) (z : reg r = 0)
    (h : wX_step_119 post (nI (n % 32)) ph wh sd st oc rg pl rh wm cw sp ol (sm_rs rs wm (nI (n % 32)) 3)) :
    wpX_stepOn (fun q u => match u with | (ph, wh, sd, st, oc, rg, pl, rh, wm, cw, sp, ol, rs) => wX_step_119 post q ph wh sd st oc rg pl rh wm cw sp ol rs) (ph, wh, sd, st, oc, rg, pl, rh, wm, cw, sp, ol, rs) (nI 10) (nI r) (nI n) (nI a) (nI on) := by
  unfold wpX_stepOn
  refine br_f (by decide) (sm_vr hr (sm_Tc C hr) (br_t rfl (br_t (by rw [z]; rfl) ?_)))
  rw [sm_a31 hn]
  refine sm_pt T ?_
  have e : nI (n % 32) &&& 31 = nI (n % 32) := by
    rw [sm_a31 (by omega)]
    exact congrArg nI (by omega)
  dsimp only
  rw [e]
  exact h
theorem sm_x10n {post : SX → Prop} (C : sm_Cl reg rg yr) (hr : r < 4) (z : reg r ≠ 0)
    (h : wX_step_119 post (nI on) ph wh sd st oc rg pl rh wm cw sp ol rs) :
    wpX_stepOn (fun q u => match u with | (ph, wh, sd, st, oc, rg, pl, rh, wm, cw, sp, ol, rs) => wX_step_119 post q ph wh sd st oc rg pl rh wm cw sp ol rs) (ph, wh, sd, st, oc, rg, pl, rh, wm, cw, sp, ol, rs) (nI 10) (nI r) (nI n) (nI a) (nI on) := by
  unfold wpX_stepOn
  have h1 := (C r hr).1
  exact br_f (by decide) (sm_vr hr (sm_Tc C hr) (br_t rfl (br_f (nI_ne0 (by omega) (by omega)) h)))
theorem sm_x11 {post : SX → Prop} {t : Int32} (C : sm_Cl reg rg yr) (T : sm_T (wm 0) (wm 1) (wm 2) wh 0 t) (hr : r < 4) (hm : m < 16)
    (h : wX_step_119 post (nI on) ph wh sd st (nI (m + 1)) rg pl rh wm cw sp (upd ol m (vp_nar .byte (nI (reg r)).toInt8.toInt32)) (sm_rs rs wm (nI (reg r)) 3)) :
    wpX_stepOn (fun q u => match u with | (ph, wh, sd, st, oc, rg, pl, rh, wm, cw, sp, ol, rs) => wX_step_119 post q ph wh sd st oc rg pl rh wm cw sp ol rs) (ph, wh, sd, st, nI m, rg, pl, rh, wm, cw, sp, ol, rs) (nI 11) (nI r) (nI n) (nI a) (nI on) := by
  unfold wpX_stepOn
  refine br_f (by decide) (sm_vr hr (sm_Tc C hr) (br_f (by decide) (br_t (nI_lt (b := 16) hm (by omega)) (sm_pt T ?_))))
  refine ⟨vp_in_nI hm (by omega), ?_⟩
  rw [nI_clamp (by omega)]
  exact nm_e (nm_r (nI_1 m) h)
theorem sm_x11f {post : SX → Prop} (C : sm_Cl reg rg yr) (hr : r < 4)
    (h : wX_step_119 post (nI a) ph wh sd 1 (nI 16) rg pl rh wm cw sp ol rs) :
    wpX_stepOn (fun q u => match u with | (ph, wh, sd, st, oc, rg, pl, rh, wm, cw, sp, ol, rs) => wX_step_119 post q ph wh sd st oc rg pl rh wm cw sp ol rs) (ph, wh, sd, st, nI 16, rg, pl, rh, wm, cw, sp, ol, rs) (nI 11) (nI r) (nI n) (nI a) (nI on) := by
  unfold wpX_stepOn
  exact br_f (by decide) (sm_vr hr (sm_Tc C hr) (br_f (by decide) (br_f (by decide) h)))
end
end
section
/-! the reference's step: its end, one lemma an operation -/
section
variable {ta sh hl dn : Int32} {yr ce op tg nu pa ys hi rg sp cw : Nat → Int32} {val reg : Nat → Nat} {a d m r n o : Nat}
theorem sm_fhL {post : SY → Prop} (h : post (ta, sh, hl, dn, yr, ce, op, tg, nu, pa, ys, sm_fl hi 6 0)) :
    ∀ k n c, c + k = 6 → k < n → wY_forgetHits_2 post ta sh hl dn n (nI c) yr ce op tg nu pa ys (sm_fl hi c 0) := by
  intro k
  induction k with
  | zero =>
    intro n c hc hn
    obtain ⟨m, rfl, hm⟩ := sm_succ hn
    obtain rfl : c = 6 := by omega
    exact br_t (nI_le (Nat.le_refl 6) (by omega)) h
  | succ k ih =>
    intro n c hc hn
    obtain ⟨m, rfl, hm⟩ := sm_succ hn
    have e := ih m (c + 1) (by omega) (by omega)
    have e2 : upd (sm_fl hi c 0) (nI c).toNatClampNeg 0 = sm_fl hi (c + 1) 0 := by
      rw [nI_clamp (by omega), sm_fls]
    exact br_f (nI_ge (b := 6) (by omega) (by omega)) ⟨vp_in_nI (by omega) (by omega), nm_r e2 (nm_r (nI_1 c) e)⟩
theorem sm_fh {post : SY → Prop} (h : post (ta, sh, hl, dn, yr, ce, op, tg, nu, pa, ys, sm_fl hi 6 0)) : wpY_forgetHits post (ta, sh, hl, dn, yr, ce, op, tg, nu, pa, ys, hi) := by
  have e := sm_fhL h 6 7 0 (by omega) (by omega)
  rw [sm_fl0] at e
  exact ⟨7, e⟩
theorem sm_227 {post : SY → Prop} {z : Int32} (hd : d < 2147483000) (h : post (z, sh, hl, nI (d + 1), yr, ce, op, tg, nu, pa, upd ys (d % 48) 0, sm_fl hi 6 0)) : wY_once_227 post z ta sh hl (nI d) yr ce op tg nu pa ys hi := by
  unfold wY_once_227
  have e : nI d - nI d / 48 * 48 = nI (d % 48) := pk_rem (d := 48) (by omega) (by omega) (by omega)
  have hw : d % 48 < 48 := Nat.mod_lt _ (by decide)
  rw [e, nI_clamp (by omega), sm_nb0]
  exact ⟨by decide, vp_in_nI hw (by omega), nm_e (nm_r (nI_1 d) (sm_fh h))⟩
theorem sm_210 {post : SY → Prop} {x z : Int32} (hd : d < 2147483000) (h0 : hl = 0 → x = z) (h1 : ¬ hl = 0 → ta = z)
    (h : post (z, sh, hl, nI (d + 1), yr, ce, op, tg, nu, pa, upd ys (d % 48) 0, sm_fl hi 6 0)) : wY_once_210 post x ta sh hl (nI d) yr ce op tg nu pa ys hi := by
  unfold wY_once_210
  refine br_c (fun q => ?_) (fun q => ?_)
  · rw [h0 q]; exact sm_227 hd h
  · rw [h1 q]; exact sm_227 hd h
theorem sm_uc0 {post : SY → Prop} {c : Nat} (hc : c < 16) (hr : r < 4) (h : post (ta, sh, hl, dn, upd yr r (ce c), ce, op, tg, nu, pa, upd ys (32 + c) 0, hi)) : wpY_useCell post (ta, sh, hl, dn, yr, ce, op, tg, nu, pa, ys, hi) (nI c) (nI r) 0 := by
  unfold wpY_useCell
  dsimp only
  have e : 32 + nI c = nI (32 + c) := nI_add 32 c
  rw [e, nI_clamp (by omega), nI_clamp (by omega), nI_clamp (by omega), sm_nb0]
  exact ⟨vp_in_nI (by omega) (by omega), nm_e (br_t rfl ⟨vp_in_nI hc (by omega), vp_in_nI hr (by omega), nm_e h⟩)⟩
theorem sm_uc1 {post : SY → Prop} {c : Nat} (hc : c < 16) (hr : r < 4) (h : post (ta, sh, hl, dn, yr, upd ce c (yr r), op, tg, nu, pa, upd ys (32 + c) 0, hi)) : wpY_useCell post (ta, sh, hl, dn, yr, ce, op, tg, nu, pa, ys, hi) (nI c) (nI r) 1 := by
  unfold wpY_useCell
  dsimp only
  have e : 32 + nI c = nI (32 + c) := nI_add 32 c
  rw [e, nI_clamp (by omega), nI_clamp (by omega), nI_clamp (by omega), sm_nb0]
  exact ⟨vp_in_nI (by omega) (by omega), nm_e (br_f (by decide) ⟨vp_in_nI hr (by omega), vp_in_nI hc (by omega), nm_e h⟩)⟩
theorem sm_ne {i j : Nat} (h : i ≠ j) (hi : i < 64) (hj : j < 64) : ¬ nI i = nI j := fun z => h ((nI_eq (by omega) (by omega)).mp z)
theorem sm_m16 {n : Nat} (h : n < 256) : nI n - nI n / 16 * 16 = nI (n % 16) := pk_rem (d := 16) (by omega) (by omega) (by omega)
theorem sm_m32 {n : Nat} (h : n < 256) : nI n - nI n / 32 * 32 = nI (n % 32) := pk_rem (d := 32) (by omega) (by omega) (by omega)
theorem sm_m4 {n : Nat} (h : n < 256) : nI n - nI n / 4 * 4 = nI (n % 4) := pk_rem (d := 4) (by omega) (by omega) (by omega)
/-- what the opening reads -/
theorem sm_yr {yr : Nat → Int32} (C : ∀ r, r < 4 → yr r = nI (reg r)) (hn : n < 256) : yr (nI n - nI n / 4 * 4).toNatClampNeg = nI (reg (n % 4)) := by
  rw [sm_m4 hn, nI_clamp (by omega)]
  exact C _ (by omega)
theorem sm_on1 (ha : a < 32) : nI a + 1 - (nI a + 1) / 32 * 32 = nI ((a + 1) % 32) := by
  rw [nI_1]
  exact sm_m32 (by omega)
theorem sm_yc {a : Nat} (ha : a < 32) (f : Nat → Int32) {x : Int32} (h : f a = x) : f (nI a).toNatClampNeg = x := by
  rw [nI_clamp (by omega)]; exact h
theorem sm_yu {a : Nat} (ha : a < 32) (f : Nat → Int32) : upd f (nI a).toNatClampNeg (vp_nar .boolean 0) = upd f a 0 := by
  rw [nI_clamp (by omega), sm_nb0]
theorem sm_y0 {post : SY → Prop} (C : ∀ r, r < 4 → reg r < 256 ∧ yr r = nI (reg r)) (ha : a < 32) (hop : op a = nI 0) (htg : tg a = nI r) (hnu : nu a = nI n) (hr : r < 4) (hn : n < 256)
    (h : wY_once_210 post (nI ((a + 1) % 32)) (nI a) sh 1 dn yr ce op tg nu pa (upd ys a 0) hi) : wpY_once post (nI a, sh, hl, dn, yr, ce, op, tg, nu, pa, ys, hi) := by
  unfold wpY_once
  dsimp only
  refine ⟨vp_in_nI ha (by omega), nm_r (sm_yc ha op hop) ⟨vp_in_nI ha (by omega), nm_r (sm_yc ha tg htg) ⟨vp_in_nI ha (by omega), nm_r (sm_yc ha nu hnu) ⟨by decide, by rw [sm_m4 hn]; exact vp_in_nI (by omega) (by omega), nm_r (sm_yr (fun r hr => (C r hr).2) hn) ⟨by decide, nm_r (sm_on1 ha) ⟨vp_in_nI (by omega) (by omega), nm_r (sm_yu ha ys) ?_⟩⟩⟩⟩⟩⟩
  exact br_t rfl h
theorem sm_y2 {post : SY → Prop} (C : ∀ r, r < 4 → reg r < 256 ∧ yr r = nI (reg r)) (ha : a < 32) (hop : op a = nI 2) (htg : tg a = nI r) (hnu : nu a = nI n) (hr : r < 4) (hn : n < 256) {c : Nat} (hc : c = n % 16)
    (h : wY_once_210 post (nI ((a + 1) % 32)) (nI a) sh hl dn (upd yr r (ce (c))) ce op tg nu pa (upd (upd ys a 0) (32 + c) 0) hi) : wpY_once post (nI a, sh, hl, dn, yr, ce, op, tg, nu, pa, ys, hi) := by
  unfold wpY_once
  dsimp only
  refine ⟨vp_in_nI ha (by omega), nm_r (sm_yc ha op hop) ⟨vp_in_nI ha (by omega), nm_r (sm_yc ha tg htg) ⟨vp_in_nI ha (by omega), nm_r (sm_yc ha nu hnu) ⟨by decide, by rw [sm_m4 hn]; exact vp_in_nI (by omega) (by omega), nm_r (sm_yr (fun r hr => (C r hr).2) hn) ⟨by decide, nm_r (sm_on1 ha) ⟨vp_in_nI (by omega) (by omega), nm_r (sm_yu ha ys) ?_⟩⟩⟩⟩⟩⟩
  refine br_f (by decide) (br_t rfl ?_)
  unfold wY_once_83
  rw [sm_m16 hn, ← hc]
  refine ⟨by decide, br_f (by decide) ?_⟩
  unfold wY_once_99
  exact sm_uc0 (by omega) hr h
theorem sm_y3 {post : SY → Prop} (C : ∀ r, r < 4 → reg r < 256 ∧ yr r = nI (reg r)) (ha : a < 32) (hop : op a = nI 3) (htg : tg a = nI r) (hnu : nu a = nI n) (hr : r < 4) (hn : n < 256) {c : Nat} (hc : c = n % 16)
    (h : wY_once_210 post (nI ((a + 1) % 32)) (nI a) sh hl dn yr (upd ce (c) (yr r)) op tg nu pa (upd (upd ys a 0) (32 + c) 0) hi) : wpY_once post (nI a, sh, hl, dn, yr, ce, op, tg, nu, pa, ys, hi) := by
  unfold wpY_once
  dsimp only
  refine ⟨vp_in_nI ha (by omega), nm_r (sm_yc ha op hop) ⟨vp_in_nI ha (by omega), nm_r (sm_yc ha tg htg) ⟨vp_in_nI ha (by omega), nm_r (sm_yc ha nu hnu) ⟨by decide, by rw [sm_m4 hn]; exact vp_in_nI (by omega) (by omega), nm_r (sm_yr (fun r hr => (C r hr).2) hn) ⟨by decide, nm_r (sm_on1 ha) ⟨vp_in_nI (by omega) (by omega), nm_r (sm_yu ha ys) ?_⟩⟩⟩⟩⟩⟩
  refine br_f (by decide) (br_f (by decide) (br_t rfl ?_))
  unfold wY_once_83
  rw [sm_m16 hn, ← hc]
  refine ⟨by decide, br_t rfl ?_⟩
  unfold wY_once_99
  exact sm_uc1 (by omega) hr h
theorem sm_y12 {post : SY → Prop} (C : ∀ r, r < 4 → reg r < 256 ∧ yr r = nI (reg r)) (ha : a < 32) (hop : op a = nI 12) (htg : tg a = nI r) (hnu : nu a = nI n) (hr : r < 4) (hn : n < 256) {c : Nat} (hc : c = reg (n % 4) % 16)
    (h : wY_once_210 post (nI ((a + 1) % 32)) (nI a) sh hl dn (upd yr r (ce (c))) ce op tg nu pa (upd (upd ys a 0) (32 + c) 0) hi) : wpY_once post (nI a, sh, hl, dn, yr, ce, op, tg, nu, pa, ys, hi) := by
  unfold wpY_once
  dsimp only
  refine ⟨vp_in_nI ha (by omega), nm_r (sm_yc ha op hop) ⟨vp_in_nI ha (by omega), nm_r (sm_yc ha tg htg) ⟨vp_in_nI ha (by omega), nm_r (sm_yc ha nu hnu) ⟨by decide, by rw [sm_m4 hn]; exact vp_in_nI (by omega) (by omega), nm_r (sm_yr (fun r hr => (C r hr).2) hn) ⟨by decide, nm_r (sm_on1 ha) ⟨vp_in_nI (by omega) (by omega), nm_r (sm_yu ha ys) ?_⟩⟩⟩⟩⟩⟩
  have hs : n % 4 < 4 := Nat.mod_lt _ (by decide)
  refine br_f (by decide) (br_f (by decide) (br_f (by decide) (br_t rfl ?_)))
  unfold wY_once_117
  rw [sm_m16 (C _ hs).1, ← hc]
  refine ⟨by decide, br_f (by decide) ?_⟩
  unfold wY_once_135
  exact sm_uc0 (by omega) hr h
theorem sm_y13 {post : SY → Prop} (C : ∀ r, r < 4 → reg r < 256 ∧ yr r = nI (reg r)) (ha : a < 32) (hop : op a = nI 13) (htg : tg a = nI r) (hnu : nu a = nI n) (hr : r < 4) (hn : n < 256) {c : Nat} (hc : c = reg (n % 4) % 16)
    (h : wY_once_210 post (nI ((a + 1) % 32)) (nI a) sh hl dn yr (upd ce (c) (yr r)) op tg nu pa (upd (upd ys a 0) (32 + c) 0) hi) : wpY_once post (nI a, sh, hl, dn, yr, ce, op, tg, nu, pa, ys, hi) := by
  unfold wpY_once
  dsimp only
  refine ⟨vp_in_nI ha (by omega), nm_r (sm_yc ha op hop) ⟨vp_in_nI ha (by omega), nm_r (sm_yc ha tg htg) ⟨vp_in_nI ha (by omega), nm_r (sm_yc ha nu hnu) ⟨by decide, by rw [sm_m4 hn]; exact vp_in_nI (by omega) (by omega), nm_r (sm_yr (fun r hr => (C r hr).2) hn) ⟨by decide, nm_r (sm_on1 ha) ⟨vp_in_nI (by omega) (by omega), nm_r (sm_yu ha ys) ?_⟩⟩⟩⟩⟩⟩
  have hs : n % 4 < 4 := Nat.mod_lt _ (by decide)
  refine br_f (by decide) (br_f (by decide) (br_f (by decide) (br_f (by decide) (br_t rfl ?_))))
  unfold wY_once_117
  rw [sm_m16 (C _ hs).1, ← hc]
  refine ⟨by decide, br_t rfl ?_⟩
  unfold wY_once_135
  exact sm_uc1 (by omega) hr h
theorem sm_y11 {post : SY → Prop} (C : ∀ r, r < 4 → reg r < 256 ∧ yr r = nI (reg r)) (ha : a < 32) (hop : op a = nI 11) (htg : tg a = nI r) (hnu : nu a = nI n) (hr : r < 4) (hn : n < 256) (hm : m < 16)
    (h : wY_once_210 post (nI ((a + 1) % 32)) (nI a) (nI (m + 1)) hl dn yr ce op tg nu (upd pa m (nI (reg r))) (upd ys a 0) hi) : wpY_once post (nI a, nI m, hl, dn, yr, ce, op, tg, nu, pa, ys, hi) := by
  unfold wpY_once
  dsimp only
  refine ⟨vp_in_nI ha (by omega), nm_r (sm_yc ha op hop) ⟨vp_in_nI ha (by omega), nm_r (sm_yc ha tg htg) ⟨vp_in_nI ha (by omega), nm_r (sm_yc ha nu hnu) ⟨by decide, by rw [sm_m4 hn]; exact vp_in_nI (by omega) (by omega), nm_r (sm_yr (fun r hr => (C r hr).2) hn) ⟨by decide, nm_r (sm_on1 ha) ⟨vp_in_nI (by omega) (by omega), nm_r (sm_yu ha ys) ?_⟩⟩⟩⟩⟩⟩
  refine br_f (by decide) (br_f (by decide) (br_f (by decide) (br_f (by decide) (br_f (by decide) (br_t rfl ?_)))))
  rw [nI_clamp (by omega), (C r hr).2]
  refine ⟨vp_in_nI hr (by omega), ?_⟩
  unfold wpY_putOut
  dsimp only
  rw [nI_clamp (by omega)]
  exact br_f (sm_ne (j := 16) (by omega) (by omega) (by omega)) ⟨vp_in_nI hm (by omega), nm_e (nm_r (nI_1 m) h)⟩
theorem sm_y11f {post : SY → Prop} (C : ∀ r, r < 4 → reg r < 256 ∧ yr r = nI (reg r)) (ha : a < 32) (hop : op a = nI 11) (htg : tg a = nI r) (hnu : nu a = nI n) (hr : r < 4) (hn : n < 256)
    (h : wY_once_210 post (nI ((a + 1) % 32)) (nI a) (nI 16) 1 dn yr ce op tg nu pa (upd ys a 0) hi) : wpY_once post (nI a, nI 16, hl, dn, yr, ce, op, tg, nu, pa, ys, hi) := by
  unfold wpY_once
  dsimp only
  refine ⟨vp_in_nI ha (by omega), nm_r (sm_yc ha op hop) ⟨vp_in_nI ha (by omega), nm_r (sm_yc ha tg htg) ⟨vp_in_nI ha (by omega), nm_r (sm_yc ha nu hnu) ⟨by decide, by rw [sm_m4 hn]; exact vp_in_nI (by omega) (by omega), nm_r (sm_yr (fun r hr => (C r hr).2) hn) ⟨by decide, nm_r (sm_on1 ha) ⟨vp_in_nI (by omega) (by omega), nm_r (sm_yu ha ys) ?_⟩⟩⟩⟩⟩⟩
  refine br_f (by decide) (br_f (by decide) (br_f (by decide) (br_f (by decide) (br_f (by decide) (br_t rfl ?_)))))
  refine ⟨vp_in_nI hr (by omega), ?_⟩
  unfold wpY_putOut
  dsimp only
  exact br_t rfl h
theorem sm_y9 {post : SY → Prop} (C : ∀ r, r < 4 → reg r < 256 ∧ yr r = nI (reg r)) (ha : a < 32) (hop : op a = nI 9) (htg : tg a = nI r) (hnu : nu a = nI n) (hr : r < 4) (hn : n < 256)
    (h : wY_once_210 post (nI (n % 32)) (nI a) sh hl dn yr ce op tg nu pa (upd ys a 0) hi) : wpY_once post (nI a, sh, hl, dn, yr, ce, op, tg, nu, pa, ys, hi) := by
  unfold wpY_once
  dsimp only
  refine ⟨vp_in_nI ha (by omega), nm_r (sm_yc ha op hop) ⟨vp_in_nI ha (by omega), nm_r (sm_yc ha tg htg) ⟨vp_in_nI ha (by omega), nm_r (sm_yc ha nu hnu) ⟨by decide, by rw [sm_m4 hn]; exact vp_in_nI (by omega) (by omega), nm_r (sm_yr (fun r hr => (C r hr).2) hn) ⟨by decide, nm_r (sm_on1 ha) ⟨vp_in_nI (by omega) (by omega), nm_r (sm_yu ha ys) ?_⟩⟩⟩⟩⟩⟩
  refine br_f (by decide) (br_f (by decide) (br_f (by decide) (br_f (by decide) (br_f (by decide) (br_f (by decide) (br_t rfl ?_))))))
  unfold wY_once_181
  exact ⟨by decide, nm_r (sm_m32 hn) h⟩
theorem sm_y10z {post : SY → Prop} (C : ∀ r, r < 4 → reg r < 256 ∧ yr r = nI (reg r)) (ha : a < 32) (hop : op a = nI 10) (htg : tg a = nI r) (hnu : nu a = nI n) (hr : r < 4) (hn : n < 256) (z : reg r = 0)
    (h : wY_once_210 post (nI (n % 32)) (nI a) sh hl dn yr ce op tg nu pa (upd ys a 0) hi) : wpY_once post (nI a, sh, hl, dn, yr, ce, op, tg, nu, pa, ys, hi) := by
  unfold wpY_once
  dsimp only
  refine ⟨vp_in_nI ha (by omega), nm_r (sm_yc ha op hop) ⟨vp_in_nI ha (by omega), nm_r (sm_yc ha tg htg) ⟨vp_in_nI ha (by omega), nm_r (sm_yc ha nu hnu) ⟨by decide, by rw [sm_m4 hn]; exact vp_in_nI (by omega) (by omega), nm_r (sm_yr (fun r hr => (C r hr).2) hn) ⟨by decide, nm_r (sm_on1 ha) ⟨vp_in_nI (by omega) (by omega), nm_r (sm_yu ha ys) ?_⟩⟩⟩⟩⟩⟩
  refine br_f (by decide) (br_f (by decide) (br_f (by decide) (br_f (by decide) (br_f (by decide) (br_f (by decide) (br_f (by decide) (br_t rfl ?_)))))))
  refine ⟨vp_in_nI hr (by omega), br_t ?_ ?_⟩
  · rw [nI_clamp (by omega), (C r hr).2, z]; rfl
  unfold wY_once_181
  exact ⟨by decide, nm_r (sm_m32 hn) h⟩
theorem sm_y10n {post : SY → Prop} (C : ∀ r, r < 4 → reg r < 256 ∧ yr r = nI (reg r)) (ha : a < 32) (hop : op a = nI 10) (htg : tg a = nI r) (hnu : nu a = nI n) (hr : r < 4) (hn : n < 256) (z : reg r ≠ 0)
    (h : wY_once_210 post (nI ((a + 1) % 32)) (nI a) sh hl dn (upd yr r (nI (sm_ca 10 (reg r) (reg (n % 4)) n))) ce op tg nu pa (upd ys a 0) hi) : wpY_once post (nI a, sh, hl, dn, yr, ce, op, tg, nu, pa, ys, hi) := by
  unfold wpY_once
  dsimp only
  refine ⟨vp_in_nI ha (by omega), nm_r (sm_yc ha op hop) ⟨vp_in_nI ha (by omega), nm_r (sm_yc ha tg htg) ⟨vp_in_nI ha (by omega), nm_r (sm_yc ha nu hnu) ⟨by decide, by rw [sm_m4 hn]; exact vp_in_nI (by omega) (by omega), nm_r (sm_yr (fun r hr => (C r hr).2) hn) ⟨by decide, nm_r (sm_on1 ha) ⟨vp_in_nI (by omega) (by omega), nm_r (sm_yu ha ys) ?_⟩⟩⟩⟩⟩⟩
  have hs : n % 4 < 4 := Nat.mod_lt _ (by decide)
  refine br_f (by decide) (br_f (by decide) (br_f (by decide) (br_f (by decide) (br_f (by decide) (br_f (by decide) (br_f (by decide) (br_t rfl ?_)))))))
  refine ⟨vp_in_nI hr (by omega), br_f ?_ ?_⟩
  · rw [nI_clamp (by omega), (C r hr).2]
    have h1 := (C r hr).1
    exact nI_ne0 (by omega) (by omega)
  unfold wY_once_190
  rw [nI_clamp (by omega), (C r hr).2]
  exact ⟨vp_in_nI hr (by omega), sm_caY (by omega) (C r hr).1 (C _ hs).1 ⟨vp_in_nI hr (by omega), nm_e h⟩⟩
theorem sm_y4 {post : SY → Prop} (C : ∀ r, r < 4 → reg r < 256 ∧ yr r = nI (reg r)) (ha : a < 32) (hop : op a = nI o) (htg : tg a = nI r) (hnu : nu a = nI n) (hr : r < 4) (hn : n < 256) (ho : o = 1 ∨ 4 ≤ o) (ho8 : o ≤ 8)
    (h : wY_once_210 post (nI ((a + 1) % 32)) (nI a) sh hl dn (upd yr r (nI (sm_ca o (reg r) (reg (n % 4)) n))) ce op tg nu pa (upd ys a 0) hi) : wpY_once post (nI a, sh, hl, dn, yr, ce, op, tg, nu, pa, ys, hi) := by
  unfold wpY_once
  dsimp only
  refine ⟨vp_in_nI ha (by omega), nm_r (sm_yc ha op hop) ⟨vp_in_nI ha (by omega), nm_r (sm_yc ha tg htg) ⟨vp_in_nI ha (by omega), nm_r (sm_yc ha nu hnu) ⟨by decide, by rw [sm_m4 hn]; exact vp_in_nI (by omega) (by omega), nm_r (sm_yr (fun r hr => (C r hr).2) hn) ⟨by decide, nm_r (sm_on1 ha) ⟨vp_in_nI (by omega) (by omega), nm_r (sm_yu ha ys) ?_⟩⟩⟩⟩⟩⟩
  have hs : n % 4 < 4 := Nat.mod_lt _ (by decide)
  have q : ∀ j, j < 64 → j ≠ o → ¬ nI o = nI j := fun j hj hne => sm_ne (fun z => hne z.symm) (by omega) hj
  refine br_f (q 0 (by omega) (by omega)) (br_f (q 2 (by omega) (by omega)) (br_f (q 3 (by omega) (by omega)) (br_f (q 12 (by omega) (by omega)) (br_f (q 13 (by omega) (by omega)) (br_f (q 11 (by omega) (by omega)) (br_f (q 9 (by omega) (by omega)) (br_f (q 10 (by omega) (by omega)) ?_)))))))
  unfold wY_once_190
  rw [nI_clamp (by omega), (C r hr).2]
  exact ⟨vp_in_nI hr (by omega), sm_caY (by omega) (C r hr).1 (C _ hs).1 ⟨vp_in_nI hr (by omega), nm_e h⟩⟩
end
end
section
/-! one step of both sides, joined; then run -/
def sm_Out (d : Nat) (X : (SX → Prop) → Prop) (Y : (SY → Prop) → Prop) : Prop :=
  ∃ (val reg : Nat → Nat) (a m : Nat) (u : SX) (v : SY), sm_R val reg a d m u v ∧ (∀ post : SX → Prop, post u → X post) ∧ (∀ post : SY → Prop, post v → Y post)
theorem sm_imp {d : Nat} {X X' : (SX → Prop) → Prop} {Y Y' : (SY → Prop) → Prop} (h : sm_Out d X Y) (f : ∀ post : SX → Prop, X post → X' post) (g : ∀ post : SY → Prop, Y post → Y' post) : sm_Out d X' Y' := by
  obtain ⟨val, reg, a, m, u, v, hR, hx, hy⟩ := h
  exact ⟨val, reg, a, m, u, v, hR, fun p hp => f p (hx p hp), fun p hp => g p (hy p hp)⟩
section
variable {ph wh st ta x : Int32} {rg pl rh wm cw sp ol rs yr ce op tg nu pa hi : Nat → Int32} {val reg : Nat → Nat} {a d m on : Nat}
theorem sm_end (hst : st = 0 ∨ st = 1) (hm : m ≤ 16) (hon : on < 32) (hd : d < 2147483000) (C : sm_Cl reg rg yr) (Z : ∀ r, r < 4 → rh r = 0) (K : sm_Wd cw sp val) (Y : sm_Yp val op tg nu ce) (O : sm_Ot m ol pa)
    (h0 : st = 0 → x = nI on) (h1 : ¬ st = 0 → ta = nI on) :
    sm_Out (d + 1) (fun post => wX_step_119 post (nI on) 0 wh (nI (d % 48)) st (nI m) rg pl rh wm cw sp ol rs) (fun post => wY_once_210 post x ta (nI m) st (nI d) yr ce op tg nu pa sp hi) :=
  ⟨val, reg, on, m, (0, 0, nI ((d + 1) % 48), st, nI m, rg, sm_fl pl 3 (nI on), rh, sm_fl wm 3 0, upd cw (d % 48) (nI (sm_enc (sm_P (d % 48)) (val (d % 48)))), upd sp (d % 48) 0, ol, rs),
    (nI on, nI m, st, nI (d + 1), yr, ce, op, tg, nu, pa, upd sp (d % 48) 0, sm_fl hi 6 0),
    sm_in hst hm hon (sm_Cl_R C Z (fun r hr => sm_flt (by omega)))
      (sm_T0 (sm_flt (by omega)) (sm_flt (by omega)) (sm_flt (by omega)) rfl (sm_flt (by omega)))
      (sm_T0 (sm_flt (by omega)) (sm_flt (by omega)) (sm_flt (by omega)) rfl (sm_flt (by omega)))
      (sm_Wd_rep K (Nat.mod_lt _ (by decide))) Y O,
    fun post hp => sm_119 K hp, fun post hp => sm_210 hd h0 h1 hp⟩
theorem sm_stepC (hm : m ≤ 16) (ha : a < 32) (hd : d < 2147483000) (R : sm_Rg reg rg rh yr hi) (Tp : sm_T (pl 0) (pl 1) (pl 2) ph (nI a) (hi 4)) (Tw : sm_T (wm 0) (wm 1) (wm 2) wh 0 (hi 5))
    (K : sm_Wd cw sp val) (Y : sm_Yp val op tg nu ce) (O : sm_Ot m ol pa) :
    sm_Out (d + 1) (fun post => wpX_step post (ph, wh, nI (d % 48), 0, nI m, rg, pl, rh, wm, cw, sp, ol, rs)) (fun post => wpY_once post (nI a, nI m, 0, nI d, yr, ce, op, tg, nu, pa, sp, hi)) := by
  have hv := sm_Wv K ha
  obtain ⟨y1, y2, y3, y4⟩ := Y.1 a ha
  have hr : val a / 16 % 4 < 4 := Nat.mod_lt _ (by decide)
  have hn : val a / 64 < 256 := by omega
  have hs : val a / 64 % 4 < 4 := Nat.mod_lt _ (by decide)
  have C := sm_Cl_va R
  have CY : ∀ r, r < 4 → reg r < 256 ∧ yr r = nI (reg r) := fun r hr => ⟨(R r hr).1, (R r hr).2.1⟩
  have K1 := sm_Wd_rep (w := a) K (by omega)
  have Z : ∀ r, r < 4 → sm_fl rh 4 0 r = 0 := fun r hr => sm_flt hr
  have hon : (a + 1) % 32 < 32 := Nat.mod_lt _ (by decide)
  have hon2 : val a / 64 % 32 < 32 := Nat.mod_lt _ (by decide)
  have hc1 : val a / 64 % 16 < 16 := Nat.mod_lt _ (by decide)
  have hc2 : reg (val a / 64 % 4) % 16 < 16 := Nat.mod_lt _ (by decide)
  have ho : val a % 16 = 0 ∨ val a % 16 = 1 ∨ val a % 16 = 2 ∨ val a % 16 = 3 ∨ (4 ≤ val a % 16 ∧ val a % 16 ≤ 8) ∨ val a % 16 = 9 ∨ val a % 16 = 10 ∨ val a % 16 = 11 ∨ val a % 16 = 12 ∨ val a % 16 = 13 := by omega
  rcases ho with o | o | o | o | o | o | o | o | o | o
  · rw [o] at y2
    exact sm_imp (sm_end (ta := nI a) (wh := wh) (st := 1) (x := nI ((a + 1) % 32)) (pl := sm_fl pl 3 (nI a)) (rh := sm_fl rh 4 0) (wm := wm) (rs := rs) (hi := hi) (on := a) (Or.inr rfl) hm ha hd C Z K1 Y O (fun z => absurd z (by decide)) (fun _ => rfl))
      (fun post hp => sm_xs R Tp K ha rfl (fun _ => by rw [o]; exact sm_x0 hp) (fun h h' => absurd (And.intro h h') (by omega)) (fun h h' => absurd (And.intro h h') (by omega)))
      (fun post hp => sm_y0 CY ha y2 y3 y4 hr hn hp)
  · rw [o] at y2
    exact sm_imp (sm_end (ta := nI a) (wh := wh) (st := 0) (x := nI ((a + 1) % 32)) (pl := sm_fl pl 3 (nI a)) (rh := sm_fl rh 4 0) (wm := wm) (rs := sm_rs rs wm (nI (val a / 64)) 3) (hi := hi) (on := ((a + 1) % 32)) (Or.inl rfl) hm hon hd (sm_Cl_w C hr hn) Z K1 Y O (fun _ => rfl) (fun z => absurd rfl z))
      (fun post hp => sm_xs R Tp K ha rfl (fun _ => by rw [o]; exact sm_x1 C Tw hr hn hp) (fun h h' => absurd (And.intro h h') (by omega)) (fun h h' => absurd (And.intro h h') (by omega)))
      (fun post hp => sm_y4 CY ha y2 y3 y4 hr hn (Or.inl rfl) (by omega) hp)
  · rw [o] at y2
    exact sm_imp (sm_end (ta := nI a) (wh := wh) (st := 0) (x := nI ((a + 1) % 32)) (pl := sm_fl pl 3 (nI a)) (rh := sm_fl rh 4 0) (wm := wm) (rs := sm_rs rs wm (nI (val (32 + val a / 64 % 16))) 3) (hi := hi) (on := ((a + 1) % 32)) (Or.inl rfl) hm hon hd (sm_Cl_w C hr (sm_Wc K (w := 32 + val a / 64 % 16) (by omega) (by omega))) Z (sm_Wd_rep (w := 32 + val a / 64 % 16) K1 (by omega)) Y O (fun _ => rfl) (fun z => absurd rfl z))
      (fun post hp => sm_xs R Tp K ha rfl (fun _ => by rw [o]; exact sm_x2 Tw K1 hr hn rfl hp) (fun h h' => absurd (And.intro h h') (by omega)) (fun h h' => absurd (And.intro h h') (by omega)))
      (fun post hp => sm_y2 CY ha y2 y3 y4 hr hn rfl (by rw [Y.2 _ hc1]; exact hp))
  · rw [o] at y2
    exact sm_imp (sm_end (ta := nI a) (wh := wh) (st := 0) (x := nI ((a + 1) % 32)) (pl := sm_fl pl 3 (nI a)) (rh := sm_fl rh 4 0) (wm := wm) (rs := sm_rs rs wm (nI (reg (val a / 16 % 4))) 3) (hi := hi) (on := ((a + 1) % 32)) (Or.inl rfl) hm hon hd C Z (sm_Wd_wr (w := 32 + val a / 64 % 16) K1 (by omega) (sm_ok13 (by omega) (CY _ hr).1)) (sm_Yp_c Y hc1) O (fun _ => rfl) (fun z => absurd rfl z))
      (fun post hp => sm_xs R Tp K ha rfl (fun _ => by rw [o]; exact sm_x3 C Tw hr hn rfl hp) (fun h h' => absurd (And.intro h h') (by omega)) (fun h h' => absurd (And.intro h h') (by omega)))
      (fun post hp => sm_y3 CY ha y2 y3 y4 hr hn rfl (by rw [(CY _ hr).2]; exact hp))
  · exact sm_imp (sm_end (ta := nI a) (wh := wh) (st := 0) (x := nI ((a + 1) % 32)) (pl := sm_fl pl 3 (nI a)) (rh := sm_fl rh 4 0) (wm := wm) (rs := sm_rs rs wm (nI (sm_ca (val a % 16) (reg (val a / 16 % 4)) (reg (val a / 64 % 4)) (val a / 64))) 3) (hi := hi) (on := ((a + 1) % 32)) (Or.inl rfl) hm hon hd (sm_Cl_w C hr (sm_ca_lt (o := val a % 16) (CY _ hr).1 (CY _ hs).1 hn)) Z K1 Y O (fun _ => rfl) (fun z => absurd rfl z))
      (fun post hp => sm_xs R Tp K ha rfl (fun h => absurd h (by omega)) (fun h h' => absurd (And.intro h h') (by omega)) (fun h h' => sm_x4 C Tw hr hn h h' hp))
      (fun post hp => sm_y4 CY ha y2 y3 y4 hr hn (Or.inr o.1) o.2 hp)
  · rw [o] at y2
    exact sm_imp (sm_end (ta := nI a) (wh := wh) (st := 0) (x := nI (val a / 64 % 32)) (pl := sm_fl pl 3 (nI a)) (rh := sm_fl rh 4 0) (wm := wm) (rs := sm_rs rs wm (nI (val a / 64 % 32)) 3) (hi := hi) (on := (val a / 64 % 32)) (Or.inl rfl) hm hon2 hd C Z K1 Y O (fun _ => rfl) (fun z => absurd rfl z))
      (fun post hp => sm_xs R Tp K ha rfl (fun h => absurd h (by omega)) (fun _ _ => by rw [o]; exact sm_x9 C Tw hr hn hp) (fun h h' => absurd (And.intro h h') (by omega)))
      (fun post hp => sm_y9 CY ha y2 y3 y4 hr hn hp)
  · rw [o] at y2
    by_cases z : reg (val a / 16 % 4) = 0
    · exact sm_imp (sm_end (ta := nI a) (wh := wh) (st := 0) (x := nI (val a / 64 % 32)) (pl := sm_fl pl 3 (nI a)) (rh := sm_fl rh 4 0) (wm := wm) (rs := sm_rs rs wm (nI (val a / 64 % 32)) 3) (hi := hi) (on := (val a / 64 % 32)) (Or.inl rfl) hm hon2 hd C Z K1 Y O (fun _ => rfl) (fun z => absurd rfl z))
        (fun post hp => sm_xs R Tp K ha rfl (fun h => absurd h (by omega)) (fun _ _ => by rw [o]; exact sm_x10z C Tw hr hn z hp) (fun h h' => absurd (And.intro h h') (by omega)))
        (fun post hp => sm_y10z CY ha y2 y3 y4 hr hn z hp)
    · exact sm_imp (sm_end (ta := nI a) (wh := wh) (st := 0) (x := nI ((a + 1) % 32)) (pl := sm_fl pl 3 (nI a)) (rh := sm_fl rh 4 0) (wm := wm) (rs := rs) (hi := hi) (on := ((a + 1) % 32)) (Or.inl rfl) hm hon hd (sm_Cl_y C hr) Z K1 Y O (fun _ => rfl) (fun z => absurd rfl z))
        (fun post hp => sm_xs R Tp K ha rfl (fun h => absurd h (by omega)) (fun _ _ => by rw [o]; exact sm_x10n C hr z hp) (fun h h' => absurd (And.intro h h') (by omega)))
        (fun post hp => sm_y10n CY ha y2 y3 y4 hr hn z hp)
  · rw [o] at y2
    by_cases z : m < 16
    · exact sm_imp (sm_end (ta := nI a) (wh := wh) (st := 0) (x := nI ((a + 1) % 32)) (pl := sm_fl pl 3 (nI a)) (rh := sm_fl rh 4 0) (wm := wm) (rs := sm_rs rs wm (nI (reg (val a / 16 % 4))) 3) (hi := hi) (on := ((a + 1) % 32)) (m := m + 1) (Or.inl rfl) (by omega) hon hd C Z K1 Y (sm_Ot_p O (CY _ hr).1) (fun _ => rfl) (fun z => absurd rfl z))
        (fun post hp => sm_xs R Tp K ha rfl (fun h => absurd h (by omega)) (fun _ _ => by rw [o]; exact sm_x11 C Tw hr z hp) (fun h h' => absurd (And.intro h h') (by omega)))
        (fun post hp => sm_y11 CY ha y2 y3 y4 hr hn z hp)
    · obtain rfl : m = 16 := by omega
      exact sm_imp (sm_end (ta := nI a) (wh := wh) (st := 1) (x := nI ((a + 1) % 32)) (pl := sm_fl pl 3 (nI a)) (rh := sm_fl rh 4 0) (wm := wm) (rs := rs) (hi := hi) (on := a) (Or.inr rfl) hm ha hd C Z K1 Y O (fun z => absurd z (by decide)) (fun _ => rfl))
        (fun post hp => sm_xs R Tp K ha rfl (fun h => absurd h (by omega)) (fun _ _ => by rw [o]; exact sm_x11f C hr hp) (fun h h' => absurd (And.intro h h') (by omega)))
        (fun post hp => sm_y11f CY ha y2 y3 y4 hr hn hp)
  · rw [o] at y2
    exact sm_imp (sm_end (ta := nI a) (wh := wh) (st := 0) (x := nI ((a + 1) % 32)) (pl := sm_fl pl 3 (nI a)) (rh := sm_fl rh 4 0) (wm := wm) (rs := sm_rs rs wm (nI (val (32 + reg (val a / 64 % 4) % 16))) 3) (hi := hi) (on := ((a + 1) % 32)) (Or.inl rfl) hm hon hd (sm_Cl_w C hr (sm_Wc K (w := 32 + reg (val a / 64 % 4) % 16) (by omega) (by omega))) Z (sm_Wd_rep (w := 32 + reg (val a / 64 % 4) % 16) K1 (by omega)) Y O (fun _ => rfl) (fun z => absurd rfl z))
      (fun post hp => sm_xs R Tp K ha rfl (fun _ => by rw [o]; exact sm_x12 C Tw K1 hr hn rfl hp) (fun h h' => absurd (And.intro h h') (by omega)) (fun h h' => absurd (And.intro h h') (by omega)))
      (fun post hp => sm_y12 CY ha y2 y3 y4 hr hn rfl (by rw [Y.2 _ hc2]; exact hp))
  · rw [o] at y2
    exact sm_imp (sm_end (ta := nI a) (wh := wh) (st := 0) (x := nI ((a + 1) % 32)) (pl := sm_fl pl 3 (nI a)) (rh := sm_fl rh 4 0) (wm := wm) (rs := sm_rs rs wm (nI (reg (val a / 16 % 4))) 3) (hi := hi) (on := ((a + 1) % 32)) (Or.inl rfl) hm hon hd C Z (sm_Wd_wr (w := 32 + reg (val a / 64 % 4) % 16) K1 (by omega) (sm_ok13 (by omega) (CY _ hr).1)) (sm_Yp_c Y hc2) O (fun _ => rfl) (fun z => absurd rfl z))
      (fun post hp => sm_xs R Tp K ha rfl (fun _ => by rw [o]; exact sm_x13 C Tw hr hn rfl hp) (fun h h' => absurd (And.intro h h') (by omega)) (fun h h' => absurd (And.intro h h') (by omega)))
      (fun post hp => sm_y13 CY ha y2 y3 y4 hr hn rfl (by rw [(CY _ hr).2]; exact hp))
end
def sm_rX (post : Int32 → SX → Prop) (N n i : Nat) (u : SX) : Prop := match u with
  | (ph, wh, sd, st, oc, rg, pl, rh, wm, cw, sp, ol, rs) => wX_run_16 post (nI N) n (nI i) (nI i) ph wh sd st oc rg pl rh wm cw sp ol rs
def sm_rY (post : Int32 → SY → Prop) (N n i : Nat) (v : SY) : Prop := match v with
  | (ta, sh, hl, dn, yr, ce, op, tg, nu, pa, ys, hi) => wY_run_14 post (nI N) n (nI i) ta sh hl dn yr ce op tg nu pa ys hi
def sm_RO (N k i d : Nat) (u : SX) (v : SY) : Prop :=
  ∃ (q d' a' m' : Nat) (val' reg' : Nat → Nat) (u' : SX) (v' : SY), d' ≤ d + k ∧ sm_R val' reg' a' d' m' u' v' ∧
    (∀ (post : Int32 → SX → Prop) (n : Nat), k < n → post (nI q) u' → sm_rX post N n i u) ∧ (∀ (post : Int32 → SY → Prop) (n : Nat), k < n → post (nI q) v' → sm_rY post N n i v)
theorem sm_run {N : Nat} (hN : N ≤ 100) : ∀ k i d a m val reg u v, i + k = N → d + k < 2147483000 → sm_R val reg a d m u v → sm_RO N k i d u v := by
  intro k
  induction k with
  | zero =>
    intro i d a m val reg u v hi hd I
    refine ⟨i, d, a, m, val, reg, u, v, Nat.le_refl _, I, ?_, ?_⟩
    · intro post n hn h
      obtain ⟨n', rfl, hm⟩ := sm_succ hn
      obtain ⟨ph, wh, sd, st, oc, rg, pl, rh, wm, cw, sp, ol, rs⟩ := u
      exact br_t (nI_le (by omega) (by omega)) h
    · intro post n hn h
      obtain ⟨n', rfl, hm⟩ := sm_succ hn
      obtain ⟨ta, sh, hl, dn, yr, ce, op, tg, nu, pa, ys, hi⟩ := v
      exact br_t (nI_le (by omega) (by omega)) h
  | succ k ih =>
    intro i d a m val reg u v hi hd I
    have I' := I
    refine sm_el (P := fun u v => sm_R val reg a d m u v → sm_RO N (k + 1) i d u v) ?_ I I'
    intro ph wh st rg pl rh wm cw sp ol rs yr ce op tg nu pa hits hst hm ha R Tp Tw K Y O I
    rcases hst with rfl | rfl
    · obtain ⟨val1, reg1, a1, m1, u1, v1, R1, X1, Y1⟩ := sm_stepC (ph := ph) (wh := wh) (rs := rs) (d := d) hm ha (by omega) R Tp Tw K Y O
      obtain ⟨q, d', a', m', val', reg', u', v', hd', R', X2, Y2⟩ := ih (i + 1) (d + 1) a1 m1 val1 reg1 u1 v1 (by omega) (by omega) R1
      refine ⟨q, d', a', m', val', reg', u', v', by omega, R', ?_, ?_⟩
      · intro post n hn h
        obtain ⟨n', rfl, hm⟩ := sm_succ hn
        have e := X2 post n' (by omega) h
        obtain ⟨u1a, u1b, u1c, u1d, u1e, u1f, u1g, u1h, u1i, u1j, u1k, u1l, u1m⟩ := u1
        exact br_f (nI_ge (by omega) (by omega)) (br_t rfl (X1 _ (nm_r (nI_1 i) (nm_r (nI_1 i) e))))
      · intro post n hn h
        obtain ⟨n', rfl, hm⟩ := sm_succ hn
        have e := Y2 post n' (by omega) h
        obtain ⟨v1a, v1b, v1c, v1d, v1e, v1f, v1g, v1h, v1i, v1j, v1k, v1l⟩ := v1
        exact br_f (nI_ge (by omega) (by omega)) (br_t rfl (Y1 _ (nm_r (nI_1 i) e)))
    · refine ⟨i, d, a, m, val, reg, _, _, by omega, I, ?_, ?_⟩
      · intro post n hn h
        obtain ⟨n', rfl, hm⟩ := sm_succ hn
        exact br_f (nI_ge (by omega) (by omega)) (br_f (by decide) h)
      · intro post n hn h
        obtain ⟨n', rfl, hm⟩ := sm_succ hn
        exact br_f (nI_ge (by omega) (by omega)) (br_f (by decide) h)
end
section
/-! the other calls: each walk with a general post -/
theorem sm_rng {x : Int32} {n : Nat} (hn : n < 2 ^ 31) (h0 : ¬ x < 0) (h : ¬ nI n ≤ x) : ∃ j, j < n ∧ x = nI j := by
  obtain ⟨j, hj, rfl⟩ := nI_of h0
  rw [nI_leI hn hj] at h
  exact ⟨j, by omega, rfl⟩
theorem sm_rng2 {x : Int32} {n : Nat} (hn : n < 2 ^ 31) (h0 : ¬ x < 0) (h : ¬ nI n < x) : ∃ j, j < n + 1 ∧ x = nI j := by
  obtain ⟨j, hj, rfl⟩ := nI_of h0
  rw [nI_ltI hn hj] at h
  exact ⟨j, by omega, rfl⟩
theorem sm_rng3 {x : Int32} {n : Nat} (hn : n < 2 ^ 31) (h0 : ¬ x < 0) (h : x ≤ nI n) : ∃ j, j < n + 1 ∧ x = nI j := by
  obtain ⟨j, hj, rfl⟩ := nI_of h0
  rw [nI_leI hj hn] at h
  exact ⟨j, by omega, rfl⟩
theorem sm_rng4 {x : Int32} {n : Nat} (hn : n < 2 ^ 31) (h0 : ¬ x < 0) (h : x < nI n) : ∃ j, j < n ∧ x = nI j := by
  obtain ⟨j, hj, rfl⟩ := nI_of h0
  rw [nI_ltI hj hn] at h
  exact ⟨j, by omega, rfl⟩
theorem sm_rngM {x : Int32} {n : Nat} (hn : n < 2 ^ 31) (h0 : ¬ x < 1) (h : ¬ nI n < x) : ∃ j, 1 ≤ j ∧ j < n + 1 ∧ x = nI j := by
  have h0' : ¬ x < nI 1 := h0
  have hz : ¬ x < 0 := by
    intro z
    apply h0
    rw [Int32.lt_iff_toInt_lt] at z ⊢
    rw [Int32.toInt_zero] at z
    have e : (1 : Int32).toInt = 1 := by decide
    rw [e]
    omega
  obtain ⟨j, hj, rfl⟩ := nI_of hz
  rw [nI_ltI hn hj] at h
  rw [nI_ltI hj (by omega)] at h0'
  exact ⟨j, by omega, by omega, rfl⟩
def sm_okS (x y z t : Int32) : Prop := ∃ p o r n : Nat, p < 32 ∧ o ≤ 13 ∧ r < 4 ∧ n < 256 ∧ x = nI p ∧ y = nI o ∧ z = nI r ∧ t = nI n
def sm_ok2 (N M : Nat) (x y : Int32) : Prop := ∃ p q : Nat, p < N ∧ q < M ∧ x = nI p ∧ y = nI q
def sm_okH (x y z : Int32) : Prop := ∃ r c q : Nat, r < 4 ∧ c < 3 ∧ 1 ≤ q ∧ q < 256 ∧ x = nI r ∧ y = nI c ∧ z = nI q
def sm_okM (M : Nat) (y z : Int32) : Prop := ∃ c q : Nat, c < 3 ∧ 1 ≤ q ∧ q < M ∧ y = nI c ∧ z = nI q
section
variable {ph wh sd st oc : Int32} {rg pl rh wm cw sp ol rs : Nat → Int32}
variable {ta sh hl dn : Int32} {yr ce op tg nu pa ys hi : Nat → Int32}
variable {v1 v2 v3 v4 : Int32}
theorem sm_pk {o r n : Nat} (ho : o ≤ 13) (hr : r < 4) (hn : n < 256) : (nI o ||| (nI r <<< ((4 : Int32) &&& 31))) ||| (nI n <<< ((6 : Int32) &&& 31)) = nI (o + 16 * r + 64 * n) := by
  have e4 : nI r <<< ((4 : Int32) &&& 31) = nI (r <<< 4) := sm_shl r (k := 4) (by omega)
  have e6 : nI n <<< ((6 : Int32) &&& 31) = nI (n <<< 6) := sm_shl n (k := 6) (by omega)
  rw [e4, e6, sm_or, sm_or, sm_orS (i := 4) (by omega), sm_orS (i := 6) (by omega)]
  exact congrArg nI (by omega)
theorem sm_setX {post : Int32 → SX → Prop} {p o r n : Nat} (hp : p < 32) (ho : o ≤ 13) (hr : r < 4) (hn : n < 256)
    (h : post 1 (ph, wh, sd, st, oc, rg, pl, rh, wm, upd cw p (nI (sm_enc (sm_P p) (o + 16 * r + 64 * n))), upd sp p 0, ol, rs)) : wpX_set post (ph, wh, sd, st, oc, rg, pl, rh, wm, cw, sp, ol, rs) (nI p) (nI o) (nI r) (nI n) := by
  unfold wpX_set
  dsimp only
  refine br_f (nI_pos (by omega)) (br_f (nI_ge (b := 32) hp (by omega)) (br_f (nI_pos (by omega)) (br_f (nI_nlt (a := 13) ho (by omega)) ?_)))
  unfold wpX_isRegister
  refine br_f (nI_pos (by omega)) (br_f (nI_ge (b := 4) hr (by omega)) (br_f (by decide) (br_f (nI_pos (by omega)) (br_t (nI_le (b := 255) (by omega) (by omega)) ?_))))
  rw [sm_pk ho hr hn]
  exact sm_ww (by omega) (sm_ok22 hp (by omega)) h
theorem sm_setXb {post : Int32 → SX → Prop} {u : SX} (ok : ¬ sm_okS v1 v2 v3 v4) (h : post 0 u) : wpX_set post u v1 v2 v3 v4 := by
  obtain ⟨ph, wh, sd, st, oc, rg, pl, rh, wm, cw, sp, ol, rs⟩ := u
  unfold wpX_set
  dsimp only
  refine br_c (fun _ => h) (fun a0 => br_c (fun _ => h) (fun a1 => br_c (fun _ => h) (fun b0 => br_c (fun _ => h) (fun b1 => ?_))))
  unfold wpX_isRegister
  refine br_c (fun _ => br_t rfl h) (fun c0 => br_c (fun _ => br_t rfl h) (fun c1 => br_f (by decide) (br_c (fun _ => h) (fun d0 => br_c (fun d1 => ?_) (fun _ => h)))))
  obtain ⟨p, hp, rfl⟩ := sm_rng (n := 32) (by omega) a0 a1
  obtain ⟨o, ho, rfl⟩ := sm_rng2 (n := 13) (by omega) b0 b1
  obtain ⟨r, hr, rfl⟩ := sm_rng (n := 4) (by omega) c0 c1
  obtain ⟨n, hn, rfl⟩ := sm_rng3 (n := 255) (by omega) d0 d1
  exact absurd ⟨p, o, r, n, hp, by omega, hr, hn, rfl, rfl, rfl, rfl⟩ ok
theorem sm_setY {post : Int32 → SY → Prop} {p o r n : Nat} (hp : p < 32) (ho : o ≤ 13) (hr : r < 4) (hn : n < 256)
    (h : post 1 (ta, sh, hl, dn, yr, ce, upd op p (nI o), upd tg p (nI r), upd nu p (nI n), pa, upd ys p 0, hi)) : wpY_set post (ta, sh, hl, dn, yr, ce, op, tg, nu, pa, ys, hi) (nI p) (nI o) (nI r) (nI n) := by
  unfold wpY_set
  dsimp only
  unfold wpY_isPlace
  refine br_f (nI_pos (by omega)) (br_f (nI_nlt (a := 31) (by omega) (by omega)) (br_f (by decide) (br_f (nI_pos (by omega)) (br_f (nI_nlt (a := 13) ho (by omega)) ?_))))
  unfold wpY_isRegister
  refine br_f (nI_pos (by omega)) (br_f (nI_nlt (a := 3) (by omega) (by omega)) (br_f (by decide) ?_))
  unfold wpY_isByte
  refine br_f (nI_pos (by omega)) (br_f (nI_nlt (a := 255) (by omega) (by omega)) (br_f (by decide) ?_))
  rw [nI_clamp (by omega), sm_nb0]
  exact ⟨vp_in_nI hp (by omega), nm_e ⟨vp_in_nI hp (by omega), nm_e ⟨vp_in_nI hp (by omega), nm_e ⟨vp_in_nI (by omega) (by omega), nm_e h⟩⟩⟩⟩
theorem sm_setYb {post : Int32 → SY → Prop} {v : SY} (ok : ¬ sm_okS v1 v2 v3 v4) (h : post 0 v) : wpY_set post v v1 v2 v3 v4 := by
  obtain ⟨ta, sh, hl, dn, yr, ce, op, tg, nu, pa, ys, hi⟩ := v
  unfold wpY_set
  dsimp only
  unfold wpY_isPlace
  refine br_c (fun _ => br_t rfl h) (fun a0 => br_c (fun _ => br_t rfl h) (fun a1 => br_f (by decide) (br_c (fun _ => h) (fun b0 => br_c (fun _ => h) (fun b1 => ?_)))))
  unfold wpY_isRegister
  refine br_c (fun _ => br_t rfl h) (fun c0 => br_c (fun _ => br_t rfl h) (fun c1 => br_f (by decide) ?_))
  unfold wpY_isByte
  refine br_c (fun _ => br_t rfl h) (fun d0 => br_c (fun _ => br_t rfl h) (fun d1 => br_f (by decide) ?_))
  obtain ⟨p, hp, rfl⟩ := sm_rng2 (n := 31) (by omega) a0 a1
  obtain ⟨o, ho, rfl⟩ := sm_rng2 (n := 13) (by omega) b0 b1
  obtain ⟨r, hr, rfl⟩ := sm_rng2 (n := 3) (by omega) c0 c1
  obtain ⟨n, hn, rfl⟩ := sm_rng2 (n := 255) (by omega) d0 d1
  exact absurd ⟨p, o, r, n, by omega, by omega, by omega, by omega, rfl, rfl, rfl, rfl⟩ ok
theorem sm_sdX {post : Int32 → SX → Prop} {c q : Nat} (hc : c < 16) (hq : q < 256)
    (h : post 1 (ph, wh, sd, st, oc, rg, pl, rh, wm, upd cw (32 + c) (nI (sm_enc (sm_P (32 + c)) q)), upd sp (32 + c) 0, ol, rs)) : wpX_setData post (ph, wh, sd, st, oc, rg, pl, rh, wm, cw, sp, ol, rs) (nI c) (nI q) := by
  unfold wpX_setData
  dsimp only
  have e : 32 + nI c = nI (32 + c) := nI_add 32 c
  rw [e]
  exact br_f (nI_pos (by omega)) (br_f (nI_ge (b := 16) hc (by omega)) (br_f (nI_pos (by omega)) (br_t (nI_le (b := 255) (by omega) (by omega)) (sm_ww (by omega) (sm_ok13 (by omega) hq) h))))
theorem sm_sdXb {post : Int32 → SX → Prop} {u : SX} (ok : ¬ sm_ok2 16 256 v1 v2) (h : post 0 u) : wpX_setData post u v1 v2 := by
  obtain ⟨ph, wh, sd, st, oc, rg, pl, rh, wm, cw, sp, ol, rs⟩ := u
  unfold wpX_setData
  dsimp only
  refine br_c (fun _ => h) (fun a0 => br_c (fun _ => h) (fun a1 => br_c (fun _ => h) (fun b0 => br_c (fun b1 => ?_) (fun _ => h))))
  obtain ⟨p, hp, rfl⟩ := sm_rng (n := 16) (by omega) a0 a1
  obtain ⟨q, hq, rfl⟩ := sm_rng3 (n := 255) (by omega) b0 b1
  exact absurd ⟨p, q, hp, hq, rfl, rfl⟩ ok
theorem sm_sdY {post : Int32 → SY → Prop} {c q : Nat} (hc : c < 16) (hq : q < 256)
    (h : post 1 (ta, sh, hl, dn, yr, upd ce c (nI q), op, tg, nu, pa, upd ys (32 + c) 0, hi)) : wpY_setData post (ta, sh, hl, dn, yr, ce, op, tg, nu, pa, ys, hi) (nI c) (nI q) := by
  unfold wpY_setData
  dsimp only
  unfold wpY_isCell
  refine br_f (nI_pos (by omega)) (br_f (nI_nlt (a := 15) (by omega) (by omega)) (br_f (by decide) ?_))
  unfold wpY_isByte
  refine br_f (nI_pos (by omega)) (br_f (nI_nlt (a := 255) (by omega) (by omega)) (br_f (by decide) ?_))
  have e : 32 + nI c = nI (32 + c) := nI_add 32 c
  rw [e, nI_clamp (by omega), nI_clamp (by omega), sm_nb0]
  exact ⟨vp_in_nI hc (by omega), nm_e ⟨vp_in_nI (by omega) (by omega), nm_e h⟩⟩
theorem sm_sdYb {post : Int32 → SY → Prop} {v : SY} (ok : ¬ sm_ok2 16 256 v1 v2) (h : post 0 v) : wpY_setData post v v1 v2 := by
  obtain ⟨ta, sh, hl, dn, yr, ce, op, tg, nu, pa, ys, hi⟩ := v
  unfold wpY_setData
  dsimp only
  unfold wpY_isCell
  refine br_c (fun _ => br_t rfl h) (fun a0 => br_c (fun _ => br_t rfl h) (fun a1 => br_f (by decide) ?_))
  unfold wpY_isByte
  refine br_c (fun _ => br_t rfl h) (fun b0 => br_c (fun _ => br_t rfl h) (fun b1 => br_f (by decide) ?_))
  obtain ⟨p, hp, rfl⟩ := sm_rng2 (n := 15) (by omega) a0 a1
  obtain ⟨q, hq, rfl⟩ := sm_rng2 (n := 255) (by omega) b0 b1
  exact absurd ⟨p, q, by omega, by omega, rfl, rfl⟩ ok
/-! hits on copies -/
theorem sm_hc {x0 x1 x2 h y t : Int32} {c : Nat} (T : sm_T x0 x1 x2 h y t) (hc : c < 3) :
    ((h &&& (((1 : Int32) <<< (nI c &&& 31)) ^^^ (-1))) = 0 ∧ (t = 0 ∨ t = nI c + 1)) ∨ (¬ (h &&& (((1 : Int32) <<< (nI c &&& 31)) ^^^ (-1))) = 0 ∧ ¬ t = 0 ∧ ¬ t = nI c + 1) := by
  have hc' : c = 0 ∨ c = 1 ∨ c = 2 := by omega
  rcases hc' with rfl | rfl | rfl <;> rcases T with ⟨rfl, rfl, _⟩ | ⟨rfl, rfl, _⟩ | ⟨rfl, rfl, _⟩ | ⟨rfl, rfl, _⟩ <;> decide
theorem sm_T_hit {f : Nat → Int32} {b c : Nat} {h y t z : Int32} (T : sm_T (f b) (f (b + 1)) (f (b + 2)) h y t) (hc : c < 3) (ok : t = 0 ∨ t = nI c + 1) :
    sm_T (upd f (b + c) z b) (upd f (b + c) z (b + 1)) (upd f (b + c) z (b + 2)) ((1 : Int32) <<< (nI c &&& 31)) y (nI c + 1) := by
  have hc' : c = 0 ∨ c = 1 ∨ c = 2 := by omega
  rcases hc' with rfl | rfl | rfl
  · rw [pk_un (j := b + 1) (by omega), pk_un (j := b + 2) (by omega)]
    refine Or.inr (Or.inl ⟨by decide, by decide, ?_⟩)
    rcases T with ⟨e, _, h0, h1, h2⟩ | ⟨e, _, h1, h2⟩ | ⟨e, _, h0, h2⟩ | ⟨e, _, h0, h1⟩
    · exact ⟨h1, h2⟩
    · exact ⟨h1, h2⟩
    · subst e; exact absurd ok (by decide)
    · subst e; exact absurd ok (by decide)
  · rw [pk_un (j := b) (by omega), pk_un (j := b + 2) (by omega)]
    refine Or.inr (Or.inr (Or.inl ⟨by decide, by decide, ?_⟩))
    rcases T with ⟨e, _, h0, h1, h2⟩ | ⟨e, _, h1, h2⟩ | ⟨e, _, h0, h2⟩ | ⟨e, _, h0, h1⟩
    · exact ⟨h0, h2⟩
    · subst e; exact absurd ok (by decide)
    · exact ⟨h0, h2⟩
    · subst e; exact absurd ok (by decide)
  · rw [pk_un (j := b) (by omega), pk_un (j := b + 1) (by omega)]
    refine Or.inr (Or.inr (Or.inr ⟨by decide, by decide, ?_⟩))
    rcases T with ⟨e, _, h0, h1, h2⟩ | ⟨e, _, h1, h2⟩ | ⟨e, _, h0, h2⟩ | ⟨e, _, h0, h1⟩
    · exact ⟨h0, h1⟩
    · subst e; exact absurd ok (by decide)
    · subst e; exact absurd ok (by decide)
    · exact ⟨h0, h1⟩
theorem sm_T_hit0 {f : Nat → Int32} {c : Nat} {h y t z : Int32} (T : sm_T (f 0) (f 1) (f 2) h y t) (hc : c < 3) (ok : t = 0 ∨ t = nI c + 1) :
    sm_T (upd f c z 0) (upd f c z 1) (upd f c z 2) ((1 : Int32) <<< (nI c &&& 31)) y (nI c + 1) := by
  have e := sm_T_hit (b := 0) (z := z) T hc ok
  rw [Nat.zero_add] at e
  exact e
theorem sm_bh : ∀ c, c < 3 → vp_nar .byte (((1 : Int32) <<< (nI c &&& 31)).toInt8.toInt32) = (1 : Int32) <<< (nI c &&& 31) := by
  intro c hc
  rw [pk_vb]
  have hc' : c = 0 ∨ c = 1 ∨ c = 2 := by omega
  rcases hc' with rfl | rfl | rfl <;> decide
theorem sm_hitG {post : Int32 → SY → Prop} {w c : Nat} {p : Int32} (hp : ¬ p = 0) (hw : w < 6) (hc : c < 3) (ok : hi w = 0 ∨ hi w = nI c + 1)
    (h : post 1 (ta, sh, hl, dn, yr, ce, op, tg, nu, pa, ys, upd hi w (nI c + 1))) : wpY_hit post (ta, sh, hl, dn, yr, ce, op, tg, nu, pa, ys, hi) (nI w) (nI c) p := by
  unfold wpY_hit
  dsimp only
  refine br_f hp (br_f (nI_pos (by omega)) (br_f (nI_nlt (a := 2) (by omega) (by omega)) ⟨vp_in_nI hw (by omega), ?_⟩))
  have k : wY_hit_36 post (nI w) (nI c) ta sh hl dn yr ce op tg nu pa ys hi := by
    unfold wY_hit_36
    rw [nI_clamp (by omega)]
    exact ⟨vp_in_nI hw (by omega), nm_e h⟩
  rw [nI_clamp (by omega)]
  exact br_c (fun _ => k) (fun z => ⟨vp_in_nI hw (by omega), br_c (fun _ => k) (fun z' => by rcases ok with q | q; exact absurd q z; exact absurd q z')⟩)
theorem sm_hitB {post : Int32 → SY → Prop} {w : Nat} {c p : Int32} (hw : w < 6) (bad : ¬ (¬ p = 0 ∧ ¬ c < 0 ∧ ¬ 2 < c ∧ (hi w = 0 ∨ hi w = c + 1))) (h : post 0 (ta, sh, hl, dn, yr, ce, op, tg, nu, pa, ys, hi)) : wpY_hit post (ta, sh, hl, dn, yr, ce, op, tg, nu, pa, ys, hi) (nI w) c p := by
  unfold wpY_hit
  dsimp only
  refine br_c (fun _ => h) (fun z1 => br_c (fun _ => h) (fun z2 => br_c (fun _ => h) (fun z3 => ⟨vp_in_nI hw (by omega), ?_⟩)))
  rw [nI_clamp (by omega)]
  exact br_c (fun z4 => absurd ⟨z1, z2, z3, Or.inl z4⟩ bad) (fun _ => ⟨vp_in_nI hw (by omega), br_c (fun z4 => absurd ⟨z1, z2, z3, Or.inr z4⟩ bad) (fun _ => h)⟩)
theorem sm_hrX {post : Int32 → SX → Prop} {r c q : Nat} (hr : r < 4) (hc : c < 3) (hq1 : 1 ≤ q) (hq : q < 256)
    (g : (rh r &&& (((1 : Int32) <<< (nI c &&& 31)) ^^^ (-1))) = 0 → post 1 (ph, wh, sd, st, oc, upd rg (r * 3 + c) (rg (r * 3 + c) ^^^ nI q), pl, upd rh r ((1 : Int32) <<< (nI c &&& 31)), wm, cw, sp, ol, rs))
    (b : ¬ (rh r &&& (((1 : Int32) <<< (nI c &&& 31)) ^^^ (-1))) = 0 → post 0 (ph, wh, sd, st, oc, rg, pl, rh, wm, cw, sp, ol, rs)) : wpX_hitRegister post (ph, wh, sd, st, oc, rg, pl, rh, wm, cw, sp, ol, rs) (nI r) (nI c) (nI q) := by
  unfold wpX_hitRegister
  dsimp only
  unfold wpX_isRegister
  refine br_f (nI_pos (by omega)) (br_f (nI_ge (b := 4) hr (by omega)) (br_f (by decide) ?_))
  unfold wpX_isCopy
  have e : nI r * 3 + nI c = nI (r * 3 + c) := by
    have e : nI r * 3 = nI (r * 3) := pk_mul r 3
    rw [e, nI_add]
  refine br_f (nI_pos (by omega)) (br_f (nI_ge (b := 3) hc (by omega)) (br_f (by decide) (br_f (nI_nlt (b := 1) hq1 (by omega)) (br_f (nI_nlt (a := 255) (by omega) (by omega)) ⟨vp_in_nI hr (by omega), ?_⟩))))
  rw [e, nI_clamp (by omega), nI_clamp (by omega), sm_bh c hc]
  exact br_c (fun z => ⟨vp_in_nI (by omega) (by omega), vp_in_nI (by omega) (by omega), nm_e ⟨vp_in_nI hr (by omega), nm_e (g z)⟩⟩) (fun z => b z)
theorem sm_hrXb {post : Int32 → SX → Prop} {u : SX} (ok : ¬ sm_okH v1 v2 v3) (h : post 0 u) : wpX_hitRegister post u v1 v2 v3 := by
  obtain ⟨ph, wh, sd, st, oc, rg, pl, rh, wm, cw, sp, ol, rs⟩ := u
  unfold wpX_hitRegister
  dsimp only
  unfold wpX_isRegister
  refine br_c (fun _ => br_t rfl h) (fun a0 => br_c (fun _ => br_t rfl h) (fun a1 => br_f (by decide) ?_))
  unfold wpX_isCopy
  refine br_c (fun _ => br_t rfl h) (fun b0 => br_c (fun _ => br_t rfl h) (fun b1 => br_f (by decide) (br_c (fun _ => h) (fun c0 => br_c (fun _ => h) (fun c1 => ?_)))))
  obtain ⟨r, hr, rfl⟩ := sm_rng (n := 4) (by omega) a0 a1
  obtain ⟨c, hc, rfl⟩ := sm_rng (n := 3) (by omega) b0 b1
  obtain ⟨q, hq1, hq, rfl⟩ := sm_rngM (n := 255) (by omega) c0 c1
  exact absurd ⟨r, c, q, hr, hc, hq1, hq, rfl, rfl, rfl⟩ ok
theorem sm_hrY {post : Int32 → SY → Prop} {r c q : Nat} (hr : r < 4) (hc : c < 3) (hq1 : 1 ≤ q) (hq : q < 256) (ok : hi r = 0 ∨ hi r = nI c + 1)
    (h : post 1 (ta, sh, hl, dn, yr, ce, op, tg, nu, pa, ys, upd hi r (nI c + 1))) : wpY_hitRegister post (ta, sh, hl, dn, yr, ce, op, tg, nu, pa, ys, hi) (nI r) (nI c) (nI q) := by
  unfold wpY_hitRegister
  dsimp only
  unfold wpY_isRegister
  refine br_f (nI_pos (by omega)) (br_f (nI_nlt (a := 3) (by omega) (by omega)) (br_f (by decide) ?_))
  unfold wpY_isMask
  refine br_f (nI_nlt (b := 1) hq1 (by omega)) (br_f (nI_nlt (a := 255) (by omega) (by omega)) ?_)
  exact sm_hitG (by decide) (by omega) hc ok (br_f (by decide) h)
theorem sm_hrYc {post : Int32 → SY → Prop} {r c q : Nat} (hr : r < 4) (n1 : ¬ hi r = 0) (n2 : ¬ hi r = nI c + 1)
    (h : post 0 (ta, sh, hl, dn, yr, ce, op, tg, nu, pa, ys, hi)) : wpY_hitRegister post (ta, sh, hl, dn, yr, ce, op, tg, nu, pa, ys, hi) (nI r) (nI c) (nI q) := by
  unfold wpY_hitRegister
  dsimp only
  unfold wpY_isRegister
  refine br_f (nI_pos (by omega)) (br_f (nI_nlt (a := 3) (by omega) (by omega)) (br_f (by decide) ?_))
  have k : ∀ p, wpY_hit (fun r u => match u with | (ta, sh, hl, dn, yr, ce, op, tg, nu, pa, ys, hi) => ((r = 0 → post 0 (ta, sh, hl, dn, yr, ce, op, tg, nu, pa, ys, hi)) ∧ (¬ r = 0 → post 1 (ta, sh, hl, dn, yr, ce, op, tg, nu, pa, ys, hi)))) (ta, sh, hl, dn, yr, ce, op, tg, nu, pa, ys, hi) (nI r) (nI c) p :=
    fun p => sm_hitB (by omega) (fun z => by rcases z.2.2.2 with y | y; exact n1 y; exact n2 y) (br_t rfl h)
  unfold wpY_isMask
  exact br_c (fun _ => k _) (fun _ => br_c (fun _ => k _) (fun _ => k _))
theorem sm_hrYb {post : Int32 → SY → Prop} {v : SY} (ok : ¬ sm_okH v1 v2 v3) (h : post 0 v) : wpY_hitRegister post v v1 v2 v3 := by
  obtain ⟨ta, sh, hl, dn, yr, ce, op, tg, nu, pa, ys, hi⟩ := v
  unfold wpY_hitRegister
  dsimp only
  unfold wpY_isRegister
  refine br_c (fun _ => br_t rfl h) (fun a0 => br_c (fun _ => br_t rfl h) (fun a1 => br_f (by decide) ?_))
  obtain ⟨r, hr, rfl⟩ := sm_rng2 (n := 3) (by omega) a0 a1
  unfold wpY_isMask
  refine br_c (fun _ => ?_) (fun b0 => br_c (fun _ => ?_) (fun b1 => ?_))
  · exact sm_hitB (by omega) (fun z => z.1 rfl) (br_t rfl h)
  · exact sm_hitB (by omega) (fun z => z.1 rfl) (br_t rfl h)
  · refine sm_hitB (by omega) (fun z => ?_) (br_t rfl h)
    obtain ⟨q, hq1, hq, rfl⟩ := sm_rngM (n := 255) (by omega) b0 b1
    obtain ⟨c, hc, rfl⟩ := sm_rng2 (n := 2) (by omega) z.2.1 z.2.2.1
    exact ok ⟨r, c, q, by omega, by omega, hq1, by omega, rfl, rfl, rfl⟩
theorem sm_hpX {post : Int32 → SX → Prop} {c q : Nat} (hc : c < 3) (hq1 : 1 ≤ q) (hq : q < 32)
    (g : (ph &&& (((1 : Int32) <<< (nI c &&& 31)) ^^^ (-1))) = 0 → post 1 ((1 : Int32) <<< (nI c &&& 31), wh, sd, st, oc, rg, upd pl c (pl c ^^^ nI q), rh, wm, cw, sp, ol, rs))
    (b : ¬ (ph &&& (((1 : Int32) <<< (nI c &&& 31)) ^^^ (-1))) = 0 → post 0 (ph, wh, sd, st, oc, rg, pl, rh, wm, cw, sp, ol, rs)) : wpX_hitPlace post (ph, wh, sd, st, oc, rg, pl, rh, wm, cw, sp, ol, rs) (nI c) (nI q) := by
  unfold wpX_hitPlace
  dsimp only
  unfold wpX_isCopy
  refine br_f (nI_pos (by omega)) (br_f (nI_ge (b := 3) hc (by omega)) (br_f (by decide) (br_f (nI_nlt (b := 1) hq1 (by omega)) (br_f (nI_nlt (a := 31) (by omega) (by omega)) ?_))))
  rw [nI_clamp (by omega)]
  exact br_c (fun z => ⟨vp_in_nI (by omega) (by omega), vp_in_nI (by omega) (by omega), nm_e (nm_e (g z))⟩) (fun z => b z)
theorem sm_hpXb {post : Int32 → SX → Prop} {u : SX} (ok : ¬ sm_okM 32 v1 v2) (h : post 0 u) : wpX_hitPlace post u v1 v2 := by
  obtain ⟨ph, wh, sd, st, oc, rg, pl, rh, wm, cw, sp, ol, rs⟩ := u
  unfold wpX_hitPlace
  dsimp only
  unfold wpX_isCopy
  refine br_c (fun _ => br_t rfl h) (fun b0 => br_c (fun _ => br_t rfl h) (fun b1 => br_f (by decide) (br_c (fun _ => h) (fun c0 => br_c (fun _ => h) (fun c1 => ?_)))))
  obtain ⟨c, hc, rfl⟩ := sm_rng (n := 3) (by omega) b0 b1
  obtain ⟨q, hq1, hq, rfl⟩ := sm_rngM (n := 31) (by omega) c0 c1
  exact absurd ⟨c, q, hc, hq1, hq, rfl, rfl⟩ ok
theorem sm_hwX {post : Int32 → SX → Prop} {c q : Nat} (hc : c < 3) (hq1 : 1 ≤ q) (hq : q < 256)
    (g : (wh &&& (((1 : Int32) <<< (nI c &&& 31)) ^^^ (-1))) = 0 → post 1 (ph, (1 : Int32) <<< (nI c &&& 31), sd, st, oc, rg, pl, rh, upd wm c (wm c ^^^ nI q), cw, sp, ol, rs))
    (b : ¬ (wh &&& (((1 : Int32) <<< (nI c &&& 31)) ^^^ (-1))) = 0 → post 0 (ph, wh, sd, st, oc, rg, pl, rh, wm, cw, sp, ol, rs)) : wpX_hitWork post (ph, wh, sd, st, oc, rg, pl, rh, wm, cw, sp, ol, rs) (nI c) (nI q) := by
  unfold wpX_hitWork
  dsimp only
  unfold wpX_isCopy
  refine br_f (nI_pos (by omega)) (br_f (nI_ge (b := 3) hc (by omega)) (br_f (by decide) (br_f (nI_nlt (b := 1) hq1 (by omega)) (br_f (nI_nlt (a := 255) (by omega) (by omega)) ?_))))
  rw [nI_clamp (by omega)]
  exact br_c (fun z => ⟨vp_in_nI (by omega) (by omega), vp_in_nI (by omega) (by omega), nm_e (nm_e (g z))⟩) (fun z => b z)
theorem sm_hwXb {post : Int32 → SX → Prop} {u : SX} (ok : ¬ sm_okM 256 v1 v2) (h : post 0 u) : wpX_hitWork post u v1 v2 := by
  obtain ⟨ph, wh, sd, st, oc, rg, pl, rh, wm, cw, sp, ol, rs⟩ := u
  unfold wpX_hitWork
  dsimp only
  unfold wpX_isCopy
  refine br_c (fun _ => br_t rfl h) (fun b0 => br_c (fun _ => br_t rfl h) (fun b1 => br_f (by decide) (br_c (fun _ => h) (fun c0 => br_c (fun _ => h) (fun c1 => ?_)))))
  obtain ⟨c, hc, rfl⟩ := sm_rng (n := 3) (by omega) b0 b1
  obtain ⟨q, hq1, hq, rfl⟩ := sm_rngM (n := 255) (by omega) c0 c1
  exact absurd ⟨c, q, hc, hq1, hq, rfl, rfl⟩ ok
theorem sm_hpY {post : Int32 → SY → Prop} {c q : Nat} (hc : c < 3) (hq1 : 1 ≤ q) (hq : q < 32) (ok : hi 4 = 0 ∨ hi 4 = nI c + 1)
    (h : post 1 (ta, sh, hl, dn, yr, ce, op, tg, nu, pa, ys, upd hi 4 (nI c + 1))) : wpY_hitPlace post (ta, sh, hl, dn, yr, ce, op, tg, nu, pa, ys, hi) (nI c) (nI q) := by
  unfold wpY_hitPlace
  dsimp only
  refine br_f (nI_nlt (b := 1) hq1 (by omega)) (br_f (nI_nlt (a := 31) (by omega) (by omega)) ?_)
  unfold wY_hitPlace_19
  exact sm_hitG (w := 4) (by decide) (by omega) hc ok ⟨rfl, h⟩
theorem sm_hpYz {post : Int32 → SY → Prop} {c p : Int32} (bad : ¬ (¬ p = 0 ∧ ¬ c < 0 ∧ ¬ 2 < c ∧ (hi 4 = 0 ∨ hi 4 = c + 1))) (h : post 0 (ta, sh, hl, dn, yr, ce, op, tg, nu, pa, ys, hi)) : wY_hitPlace_19 post p c 4 ta sh hl dn yr ce op tg nu pa ys hi := by
  unfold wY_hitPlace_19
  exact sm_hitB (w := 4) (by omega) bad ⟨rfl, h⟩
theorem sm_hpYc {post : Int32 → SY → Prop} {c : Nat} {q : Int32} (n1 : ¬ hi 4 = 0) (n2 : ¬ hi 4 = nI c + 1)
    (h : post 0 (ta, sh, hl, dn, yr, ce, op, tg, nu, pa, ys, hi)) : wpY_hitPlace post (ta, sh, hl, dn, yr, ce, op, tg, nu, pa, ys, hi) (nI c) q := by
  unfold wpY_hitPlace
  dsimp only
  have k : ∀ p, wY_hitPlace_19 post p (nI c) 4 ta sh hl dn yr ce op tg nu pa ys hi := fun p => sm_hpYz (fun z => by rcases z.2.2.2 with y | y; exact n1 y; exact n2 y) h
  exact br_c (fun _ => k _) (fun _ => br_c (fun _ => k _) (fun _ => k _))
theorem sm_hpYb {post : Int32 → SY → Prop} {v : SY} (ok : ¬ sm_okM 32 v1 v2) (h : post 0 v) : wpY_hitPlace post v v1 v2 := by
  obtain ⟨ta, sh, hl, dn, yr, ce, op, tg, nu, pa, ys, hi⟩ := v
  unfold wpY_hitPlace
  dsimp only
  refine br_c (fun _ => ?_) (fun b0 => br_c (fun _ => ?_) (fun b1 => ?_))
  · exact sm_hpYz (fun z => z.1 rfl) h
  · exact sm_hpYz (fun z => z.1 rfl) h
  · refine sm_hpYz (fun z => ?_) h
    obtain ⟨q, hq1, hq, rfl⟩ := sm_rngM (n := 31) (by omega) b0 b1
    obtain ⟨c, hc, rfl⟩ := sm_rng2 (n := 2) (by omega) z.2.1 z.2.2.1
    exact ok ⟨c, q, by omega, hq1, by omega, rfl, rfl⟩
theorem sm_hwY {post : Int32 → SY → Prop} {c q : Nat} (hc : c < 3) (hq1 : 1 ≤ q) (hq : q < 256) (ok : hi 5 = 0 ∨ hi 5 = nI c + 1)
    (h : post 1 (ta, sh, hl, dn, yr, ce, op, tg, nu, pa, ys, upd hi 5 (nI c + 1))) : wpY_hitWork post (ta, sh, hl, dn, yr, ce, op, tg, nu, pa, ys, hi) (nI c) (nI q) := by
  unfold wpY_hitWork
  dsimp only
  unfold wpY_isMask
  exact br_f (nI_nlt (b := 1) hq1 (by omega)) (br_f (nI_nlt (a := 255) (by omega) (by omega)) (sm_hitG (w := 5) (by decide) (by omega) hc ok ⟨rfl, h⟩))
theorem sm_hwYc {post : Int32 → SY → Prop} {c : Nat} {q : Int32} (n1 : ¬ hi 5 = 0) (n2 : ¬ hi 5 = nI c + 1)
    (h : post 0 (ta, sh, hl, dn, yr, ce, op, tg, nu, pa, ys, hi)) : wpY_hitWork post (ta, sh, hl, dn, yr, ce, op, tg, nu, pa, ys, hi) (nI c) q := by
  unfold wpY_hitWork
  dsimp only
  have bad : ∀ p : Int32, ¬ (¬ p = 0 ∧ ¬ nI c < 0 ∧ ¬ 2 < nI c ∧ (hi 5 = 0 ∨ hi 5 = nI c + 1)) := fun p z => by rcases z.2.2.2 with y | y; exact n1 y; exact n2 y
  unfold wpY_isMask
  exact br_c (fun _ => sm_hitB (w := 5) (by omega) (bad _) ⟨rfl, h⟩) (fun _ => br_c (fun _ => sm_hitB (w := 5) (by omega) (bad _) ⟨rfl, h⟩) (fun _ => sm_hitB (w := 5) (by omega) (bad _) ⟨rfl, h⟩))
theorem sm_hwYb {post : Int32 → SY → Prop} {v : SY} (ok : ¬ sm_okM 256 v1 v2) (h : post 0 v) : wpY_hitWork post v v1 v2 := by
  obtain ⟨ta, sh, hl, dn, yr, ce, op, tg, nu, pa, ys, hi⟩ := v
  unfold wpY_hitWork
  dsimp only
  unfold wpY_isMask
  refine br_c (fun _ => ?_) (fun b0 => br_c (fun _ => ?_) (fun b1 => ?_))
  · exact sm_hitB (w := 5) (by omega) (fun z => z.1 rfl) ⟨rfl, h⟩
  · exact sm_hitB (w := 5) (by omega) (fun z => z.1 rfl) ⟨rfl, h⟩
  · refine sm_hitB (w := 5) (by omega) (fun z => ?_) ⟨rfl, h⟩
    obtain ⟨q, hq1, hq, rfl⟩ := sm_rngM (n := 255) (by omega) b0 b1
    obtain ⟨c, hc, rfl⟩ := sm_rng2 (n := 2) (by omega) z.2.1 z.2.2.1
    exact ok ⟨c, q, by omega, hq1, by omega, rfl, rfl⟩
/-! hits on words -/
theorem sm_hwd {post : Int32 → SX → Prop} {w b : Nat} (hw : w < 48)
    (g : sp w = 0 → post 1 (ph, wh, sd, st, oc, rg, pl, rh, wm, upd cw w (cw w ^^^ ((1 : Int32) <<< (nI b &&& 31))), upd sp w 1, ol, rs)) (n : ¬ sp w = 0 → post 0 (ph, wh, sd, st, oc, rg, pl, rh, wm, cw, sp, ol, rs)) : wpX_hitWord post (ph, wh, sd, st, oc, rg, pl, rh, wm, cw, sp, ol, rs) (nI w) (nI b) := by
  unfold wpX_hitWord
  dsimp only
  rw [nI_clamp (by omega), sm_nb1]
  exact ⟨vp_in_nI hw (by omega), br_c (fun z => ⟨vp_in_nI hw (by omega), vp_in_nI hw (by omega), nm_e ⟨vp_in_nI hw (by omega), nm_e (g z)⟩⟩) n⟩
theorem sm_spl {post : Int32 → SY → Prop} {w : Nat} (hw : w < 48) (g : ys w = 0 → post 1 (ta, sh, hl, dn, yr, ce, op, tg, nu, pa, upd ys w 1, hi)) (n : ¬ ys w = 0 → post 0 (ta, sh, hl, dn, yr, ce, op, tg, nu, pa, ys, hi)) : wpY_spoil post (ta, sh, hl, dn, yr, ce, op, tg, nu, pa, ys, hi) (nI w) := by
  unfold wpY_spoil
  dsimp only
  rw [nI_clamp (by omega), sm_nb1]
  exact ⟨vp_in_nI hw (by omega), br_c (fun z => ⟨vp_in_nI hw (by omega), nm_e (g z)⟩) n⟩
theorem sm_hdX {post : Int32 → SX → Prop} {c b : Nat} (hc : c < 16) (hb : b < 13)
    (g : sp (32 + c) = 0 → post 1 (ph, wh, sd, st, oc, rg, pl, rh, wm, upd cw (32 + c) (cw (32 + c) ^^^ ((1 : Int32) <<< (nI b &&& 31))), upd sp (32 + c) 1, ol, rs)) (n : ¬ sp (32 + c) = 0 → post 0 (ph, wh, sd, st, oc, rg, pl, rh, wm, cw, sp, ol, rs)) : wpX_hitData post (ph, wh, sd, st, oc, rg, pl, rh, wm, cw, sp, ol, rs) (nI c) (nI b) := by
  unfold wpX_hitData
  dsimp only
  have e : 32 + nI c = nI (32 + c) := nI_add 32 c
  rw [e]
  exact br_f (nI_pos (by omega)) (br_f (nI_ge (b := 16) hc (by omega)) (br_f (nI_pos (by omega)) (br_t (nI_lt (b := 13) hb (by omega)) (sm_hwd (by omega) (fun z => ⟨rfl, g z⟩) (fun z => ⟨rfl, n z⟩)))))
theorem sm_hdXb {post : Int32 → SX → Prop} {u : SX} (ok : ¬ sm_ok2 16 13 v1 v2) (h : post 0 u) : wpX_hitData post u v1 v2 := by
  obtain ⟨ph, wh, sd, st, oc, rg, pl, rh, wm, cw, sp, ol, rs⟩ := u
  unfold wpX_hitData
  dsimp only
  refine br_c (fun _ => h) (fun a0 => br_c (fun _ => h) (fun a1 => br_c (fun _ => h) (fun b0 => br_c (fun b1 => ?_) (fun _ => h))))
  obtain ⟨p, hp, rfl⟩ := sm_rng (n := 16) (by omega) a0 a1
  obtain ⟨q, hq, rfl⟩ := sm_rng4 (n := 13) (by omega) b0 b1
  exact absurd ⟨p, q, hp, hq, rfl, rfl⟩ ok
theorem sm_hdY {post : Int32 → SY → Prop} {c b : Nat} (hc : c < 16) (hb : b < 13)
    (g : ys (32 + c) = 0 → post 1 (ta, sh, hl, dn, yr, ce, op, tg, nu, pa, upd ys (32 + c) 1, hi)) (n : ¬ ys (32 + c) = 0 → post 0 (ta, sh, hl, dn, yr, ce, op, tg, nu, pa, ys, hi)) : wpY_hitData post (ta, sh, hl, dn, yr, ce, op, tg, nu, pa, ys, hi) (nI c) (nI b) := by
  unfold wpY_hitData
  dsimp only
  have e : 32 + nI c = nI (32 + c) := nI_add 32 c
  rw [e]
  unfold wpY_isCell
  refine br_f (nI_pos (by omega)) (br_f (nI_nlt (a := 15) (by omega) (by omega)) (br_f (by decide) (br_f (nI_pos (by omega)) (br_f (nI_nlt (a := 12) (by omega) (by omega)) ?_))))
  exact sm_spl (by omega) (fun z => br_f (by decide) (g z)) (fun z => br_t rfl (n z))
theorem sm_hdYb {post : Int32 → SY → Prop} {v : SY} (ok : ¬ sm_ok2 16 13 v1 v2) (h : post 0 v) : wpY_hitData post v v1 v2 := by
  obtain ⟨ta, sh, hl, dn, yr, ce, op, tg, nu, pa, ys, hi⟩ := v
  unfold wpY_hitData
  dsimp only
  unfold wpY_isCell
  refine br_c (fun _ => br_t rfl h) (fun a0 => br_c (fun _ => br_t rfl h) (fun a1 => br_f (by decide) (br_c (fun _ => h) (fun b0 => br_c (fun _ => h) (fun b1 => ?_)))))
  obtain ⟨p, hp, rfl⟩ := sm_rng2 (n := 15) (by omega) a0 a1
  obtain ⟨q, hq, rfl⟩ := sm_rng2 (n := 12) (by omega) b0 b1
  exact absurd ⟨p, q, by omega, by omega, rfl, rfl⟩ ok
theorem sm_hgX {post : Int32 → SX → Prop} {c b : Nat} (hc : c < 32) (hb : b < 22)
    (g : sp (c) = 0 → post 1 (ph, wh, sd, st, oc, rg, pl, rh, wm, upd cw (c) (cw (c) ^^^ ((1 : Int32) <<< (nI b &&& 31))), upd sp (c) 1, ol, rs)) (n : ¬ sp (c) = 0 → post 0 (ph, wh, sd, st, oc, rg, pl, rh, wm, cw, sp, ol, rs)) : wpX_hitProgram post (ph, wh, sd, st, oc, rg, pl, rh, wm, cw, sp, ol, rs) (nI c) (nI b) := by
  unfold wpX_hitProgram
  dsimp only
  exact br_f (nI_pos (by omega)) (br_f (nI_ge (b := 32) hc (by omega)) (br_f (nI_pos (by omega)) (br_t (nI_lt (b := 22) hb (by omega)) (sm_hwd (by omega) (fun z => ⟨rfl, g z⟩) (fun z => ⟨rfl, n z⟩)))))
theorem sm_hgXb {post : Int32 → SX → Prop} {u : SX} (ok : ¬ sm_ok2 32 22 v1 v2) (h : post 0 u) : wpX_hitProgram post u v1 v2 := by
  obtain ⟨ph, wh, sd, st, oc, rg, pl, rh, wm, cw, sp, ol, rs⟩ := u
  unfold wpX_hitProgram
  dsimp only
  refine br_c (fun _ => h) (fun a0 => br_c (fun _ => h) (fun a1 => br_c (fun _ => h) (fun b0 => br_c (fun b1 => ?_) (fun _ => h))))
  obtain ⟨p, hp, rfl⟩ := sm_rng (n := 32) (by omega) a0 a1
  obtain ⟨q, hq, rfl⟩ := sm_rng4 (n := 22) (by omega) b0 b1
  exact absurd ⟨p, q, hp, hq, rfl, rfl⟩ ok
theorem sm_hgY {post : Int32 → SY → Prop} {c b : Nat} (hc : c < 32) (hb : b < 22)
    (g : ys (c) = 0 → post 1 (ta, sh, hl, dn, yr, ce, op, tg, nu, pa, upd ys (c) 1, hi)) (n : ¬ ys (c) = 0 → post 0 (ta, sh, hl, dn, yr, ce, op, tg, nu, pa, ys, hi)) : wpY_hitProgram post (ta, sh, hl, dn, yr, ce, op, tg, nu, pa, ys, hi) (nI c) (nI b) := by
  unfold wpY_hitProgram
  dsimp only
  unfold wpY_isPlace
  refine br_f (nI_pos (by omega)) (br_f (nI_nlt (a := 31) (by omega) (by omega)) (br_f (by decide) (br_f (nI_pos (by omega)) (br_f (nI_nlt (a := 21) (by omega) (by omega)) ?_))))
  exact sm_spl (by omega) (fun z => br_f (by decide) (g z)) (fun z => br_t rfl (n z))
theorem sm_hgYb {post : Int32 → SY → Prop} {v : SY} (ok : ¬ sm_ok2 32 22 v1 v2) (h : post 0 v) : wpY_hitProgram post v v1 v2 := by
  obtain ⟨ta, sh, hl, dn, yr, ce, op, tg, nu, pa, ys, hi⟩ := v
  unfold wpY_hitProgram
  dsimp only
  unfold wpY_isPlace
  refine br_c (fun _ => br_t rfl h) (fun a0 => br_c (fun _ => br_t rfl h) (fun a1 => br_f (by decide) (br_c (fun _ => h) (fun b0 => br_c (fun _ => h) (fun b1 => ?_)))))
  obtain ⟨p, hp, rfl⟩ := sm_rng2 (n := 31) (by omega) a0 a1
  obtain ⟨q, hq, rfl⟩ := sm_rng2 (n := 21) (by omega) b0 b1
  exact absurd ⟨p, q, by omega, by omega, rfl, rfl⟩ ok
end
end
section
/-! reads, the count of spoiled words, reset, the constructor -/
/-- the number of spoiled words below k -/
def sm_cn (f : Nat → Int32) : Nat → Nat
  | 0 => 0
  | k + 1 => if f k = 0 then sm_cn f k else sm_cn f k + 1
/-- the words that the constructor has written -/
def sm_ci (k : Nat) : Nat → Int32 := fun j => if j < k then nI (sm_enc (sm_P j) 0) else 0
theorem sm_cis (k : Nat) : upd (sm_ci k) k (nI (sm_enc (sm_P k) 0)) = sm_ci (k + 1) := by
  funext j
  unfold upd sm_ci
  by_cases h : j = k
  · rw [if_pos h, if_pos (by omega), h]
  · rw [if_neg h]
    by_cases h2 : j < k
    · rw [if_pos h2, if_pos (by omega)]
    · rw [if_neg h2, if_neg (by omega)]
theorem sm_z0 (k : Nat) : upd (fun _ => 0) k 0 = fun _ => 0 := by
  funext j
  unfold upd
  by_cases h : j = k
  · rw [if_pos h]
  · rw [if_neg h]
theorem sm_okz (w : Nat) : sm_okv (sm_P w) 0 := by
  by_cases h : w < 32
  · exact sm_ok22 h (by omega)
  · exact sm_ok13 (by omega) (by omega)
section
variable {ph wh sd st oc : Int32} {rg pl rh wm cw sp ol rs : Nat → Int32}
variable {ta sh hl dn : Int32} {yr ce op tg nu pa ys hi : Nat → Int32}
theorem sm_spXL {post : Int32 → Prop} (h : post (nI (sm_cn sp 48))) :
    ∀ k n i, i + k = 48 → k < n → wX_spoiled_4 post ph wh sd st oc rg pl rh wm cw sp ol rs n (nI (sm_cn sp i)) (nI i) := by
  intro k
  induction k with
  | zero =>
    intro n i hi hn
    obtain ⟨m, rfl, hm⟩ := sm_succ hn
    obtain rfl : i = 48 := by omega
    exact br_t (nI_le (Nat.le_refl 48) (by omega)) h
  | succ k ih =>
    intro n i hi hn
    obtain ⟨m, rfl, hm⟩ := sm_succ hn
    have e := ih m (i + 1) (by omega) (by omega)
    refine br_f (nI_ge (b := 48) (by omega) (by omega)) ⟨vp_in_nI (by omega) (by omega), ?_⟩
    rw [nI_clamp (by omega)]
    by_cases z : sp i = 0
    · have e2 : nI (sm_cn sp i) + 0 = nI (sm_cn sp (i + 1)) := by
        have q : sm_cn sp (i + 1) = sm_cn sp i := if_pos z
        rw [q]
        exact nI_add (sm_cn sp i) 0
      exact br_t z (nm_r e2 (nm_r (nI_1 i) e))
    · have e2 : nI (sm_cn sp i) + 1 = nI (sm_cn sp (i + 1)) := by
        have q : sm_cn sp (i + 1) = sm_cn sp i + 1 := if_neg z
        rw [q]
        exact nI_1 _
      exact br_f z (nm_r e2 (nm_r (nI_1 i) e))
theorem sm_spX {post : Int32 → Prop} (h : post (nI (sm_cn sp 48))) : wpX_spoiled post (ph, wh, sd, st, oc, rg, pl, rh, wm, cw, sp, ol, rs) :=
  ⟨49, sm_spXL h 48 49 0 (by omega) (by omega)⟩
theorem sm_spYL {post : Int32 → Prop} (h : post (nI (sm_cn ys 48))) :
    ∀ k n i, i + k = 48 → k < n → wY_spoiled_4 post ta sh hl dn yr ce op tg nu pa ys hi n (nI (sm_cn ys i)) (nI i) := by
  intro k
  induction k with
  | zero =>
    intro n i hi hn
    obtain ⟨m, rfl, hm⟩ := sm_succ hn
    obtain rfl : i = 48 := by omega
    exact br_t (nI_le (Nat.le_refl 48) (by omega)) h
  | succ k ih =>
    intro n i hi hn
    obtain ⟨m, rfl, hm⟩ := sm_succ hn
    have e := ih m (i + 1) (by omega) (by omega)
    refine br_f (nI_ge (b := 48) (by omega) (by omega)) ⟨vp_in_nI (by omega) (by omega), ?_⟩
    rw [nI_clamp (by omega)]
    by_cases z : ys i = 0
    · have q : sm_cn ys (i + 1) = sm_cn ys i := if_pos z
      rw [q] at e
      exact br_t z (nm_r (nI_1 i) e)
    · have e2 : nI (sm_cn ys i) + 1 = nI (sm_cn ys (i + 1)) := by
        have q : sm_cn ys (i + 1) = sm_cn ys i + 1 := if_neg z
        rw [q]
        exact nI_1 _
      exact br_f z (nm_r e2 (nm_r (nI_1 i) e))
theorem sm_spY {post : Int32 → Prop} (h : post (nI (sm_cn ys 48))) : wpY_spoiled post (ta, sh, hl, dn, yr, ce, op, tg, nu, pa, ys, hi) :=
  ⟨49, sm_spYL h 48 49 0 (by omega) (by omega)⟩
theorem sm_isRX {post : Int32 → Prop} {x : Int32} (g : ∀ r, r < 4 → x = nI r → post 1) (b : (¬ ∃ r, r < 4 ∧ x = nI r) → post 0) : wpX_isRegister post x := by
  unfold wpX_isRegister
  refine br_c (fun z => b ?_) (fun a0 => br_c (fun z => b ?_) (fun a1 => ?_))
  · rintro ⟨r, hr, rfl⟩; exact nI_pos (by omega) z
  · rintro ⟨r, hr, rfl⟩; exact nI_ge (b := 4) hr (by omega) z
  · obtain ⟨r, hr, e⟩ := sm_rng (n := 4) (by omega) a0 a1
    exact g r hr e
theorem sm_isRY {post : Int32 → Prop} {x : Int32} {v : SY} (g : ∀ r, r < 4 → x = nI r → post 1) (b : (¬ ∃ r, r < 4 ∧ x = nI r) → post 0) : wpY_isRegister post v x := by
  obtain ⟨ta, sh, hl, dn, yr, ce, op, tg, nu, pa, ys, hi⟩ := v
  unfold wpY_isRegister
  refine br_c (fun z => b ?_) (fun a0 => br_c (fun z => b ?_) (fun a1 => ?_))
  · rintro ⟨r, hr, rfl⟩; exact nI_pos (by omega) z
  · rintro ⟨r, hr, rfl⟩; exact nI_nlt (a := 3) (by omega) (by omega) z
  · obtain ⟨r, hr, e⟩ := sm_rng2 (n := 3) (by omega) a0 a1
    exact g r (by omega) e
theorem sm_isCY {post : Int32 → Prop} {x : Int32} {v : SY} (g : ∀ r, r < 16 → x = nI r → post 1) (b : (¬ ∃ r, r < 16 ∧ x = nI r) → post 0) : wpY_isCell post v x := by
  obtain ⟨ta, sh, hl, dn, yr, ce, op, tg, nu, pa, ys, hi⟩ := v
  unfold wpY_isCell
  refine br_c (fun z => b ?_) (fun a0 => br_c (fun z => b ?_) (fun a1 => ?_))
  · rintro ⟨r, hr, rfl⟩; exact nI_pos (by omega) z
  · rintro ⟨r, hr, rfl⟩; exact nI_nlt (a := 15) (by omega) (by omega) z
  · obtain ⟨r, hr, e⟩ := sm_rng2 (n := 15) (by omega) a0 a1
    exact g r (by omega) e
theorem sm_rs38 {post : SX → Prop} (h : post (ph, 0, sd, 0, 0, rg, pl, rh, sm_fl wm 3 0, cw, sp, ol, rs)) :
    ∀ k n c, c + k = 3 → k < n → wX_reset_38 post ph wh sd st oc n (nI c) rg pl rh (sm_fl wm c 0) cw sp ol rs := by
  intro k
  induction k with
  | zero =>
    intro n c hc hn
    obtain ⟨m, rfl, hm⟩ := sm_succ hn
    obtain rfl : c = 3 := by omega
    exact br_t (nI_le (Nat.le_refl 3) (by omega)) h
  | succ k ih =>
    intro n c hc hn
    obtain ⟨m, rfl, hm⟩ := sm_succ hn
    have e := ih m (c + 1) (by omega) (by omega)
    have e2 : upd (sm_fl wm c 0) (nI c).toNatClampNeg 0 = sm_fl wm (c + 1) 0 := by
      rw [nI_clamp (by omega), sm_fls]
    exact br_f (nI_ge (b := 3) (by omega) (by omega)) ⟨vp_in_nI (by omega) (by omega), nm_r e2 (nm_r (nI_1 c) e)⟩
theorem sm_rs2 {post : SX → Prop} (h : post (0, 0, sd, 0, 0, sm_va rg (fun _ => 0) 4, sm_fl pl 3 0, sm_fl rh 4 0, sm_fl wm 3 0, cw, sp, ol, rs)) :
    ∀ k n r, r + k = 4 → k < n → wX_reset_2 post n (nI r) ph wh sd st oc (sm_va rg (fun _ => 0) r) pl (sm_fl rh r 0) wm cw sp ol rs := by
  intro k
  induction k with
  | zero =>
    intro n r hr hn
    obtain ⟨m, rfl, hm⟩ := sm_succ hn
    obtain rfl : r = 4 := by omega
    refine br_t (nI_le (Nat.le_refl 4) (by omega)) (sm_wp ?_)
    have e := sm_rs38 (sd := sd) (wh := wh) (st := st) (oc := oc) h 3 4 0 (by omega) (by omega)
    rw [sm_fl0] at e
    exact ⟨4, e⟩
  | succ k ih =>
    intro n r hr hn
    obtain ⟨m, rfl, hm⟩ := sm_succ hn
    have e := ih m (r + 1) (by omega) (by omega)
    have e2 : upd (sm_fl rh r 0) (nI r).toNatClampNeg (vp_nar .byte 0) = sm_fl rh (r + 1) 0 := by
      rw [nI_clamp (by omega), sm_ny0, sm_fls]
    have e3 : sm_w (sm_va rg (fun _ => 0) r) r 3 0 = sm_va rg (fun _ => 0) (r + 1) := sm_vas rg (fun _ => 0) r
    refine br_f (nI_ge (b := 4) (by omega) (by omega)) (sm_wr (by omega) ?_)
    rw [e3]
    exact ⟨vp_in_nI (by omega) (by omega), nm_r e2 (nm_r (nI_1 r) e)⟩
theorem sm_rsX {post : SX → Prop} (h : post (0, 0, sd, 0, 0, sm_va rg (fun _ => 0) 4, sm_fl pl 3 0, sm_fl rh 4 0, sm_fl wm 3 0, cw, sp, ol, rs)) : wpX_reset post (ph, wh, sd, st, oc, rg, pl, rh, wm, cw, sp, ol, rs) := by
  have e := sm_rs2 (ph := ph) (wh := wh) (st := st) (oc := oc) h 4 5 0 (by omega) (by omega)
  rw [sm_va0, sm_fl0] at e
  exact ⟨5, e⟩
theorem sm_rsYL {post : SY → Prop} (h : post (0, 0, 0, dn, sm_fl yr 4 0, ce, op, tg, nu, pa, ys, sm_fl hi 6 0)) :
    ∀ k n c, c + k = 4 → k < n → wY_reset_2 post ta sh hl dn n (nI c) (sm_fl yr c 0) ce op tg nu pa ys hi := by
  intro k
  induction k with
  | zero =>
    intro n c hc hn
    obtain ⟨m, rfl, hm⟩ := sm_succ hn
    obtain rfl : c = 4 := by omega
    exact br_t (nI_le (Nat.le_refl 4) (by omega)) (sm_fh h)
  | succ k ih =>
    intro n c hc hn
    obtain ⟨m, rfl, hm⟩ := sm_succ hn
    have e := ih m (c + 1) (by omega) (by omega)
    have e2 : upd (sm_fl yr c 0) (nI c).toNatClampNeg 0 = sm_fl yr (c + 1) 0 := by
      rw [nI_clamp (by omega), sm_fls]
    exact br_f (nI_ge (b := 4) (by omega) (by omega)) ⟨vp_in_nI (by omega) (by omega), nm_r e2 (nm_r (nI_1 c) e)⟩
theorem sm_rsY {post : SY → Prop} (h : post (0, 0, 0, dn, sm_fl yr 4 0, ce, op, tg, nu, pa, ys, sm_fl hi 6 0)) : wpY_reset post (ta, sh, hl, dn, yr, ce, op, tg, nu, pa, ys, hi) := by
  have e := sm_rsYL (ta := ta) (sh := sh) (hl := hl) h 4 5 0 (by omega) (by omega)
  rw [sm_fl0] at e
  exact ⟨5, e⟩
end
theorem sm_inL {post : SX → Prop} (h : post (0, 0, 0, 0, 0, fun _ => 0, fun _ => 0, fun _ => 0, fun _ => 0, sm_ci 48, fun _ => 0, fun _ => 0, fun _ => 0)) :
    ∀ k n w, w + k = 48 → k < n → wX_init_66 post n (nI w) 0 0 0 0 0 (fun _ => 0) (fun _ => 0) (fun _ => 0) (fun _ => 0) (sm_ci w) (fun _ => 0) (fun _ => 0) (fun _ => 0) := by
  intro k
  induction k with
  | zero =>
    intro n w hw hn
    obtain ⟨m, rfl, hm⟩ := sm_succ hn
    obtain rfl : w = 48 := by omega
    exact br_t (nI_le (Nat.le_refl 48) (by omega)) h
  | succ k ih =>
    intro n w hw hn
    obtain ⟨m, rfl, hm⟩ := sm_succ hn
    have e := ih m (w + 1) (by omega) (by omega)
    refine br_f (nI_ge (b := 48) (by omega) (by omega)) (sm_ww (v := 0) (by omega) (sm_okz w) ?_)
    rw [sm_cis, sm_z0]
    exact nm_r (nI_1 w) e
theorem sm_inX {post : SX → Prop} (h : post (0, 0, 0, 0, 0, fun _ => 0, fun _ => 0, fun _ => 0, fun _ => 0, sm_ci 48, fun _ => 0, fun _ => 0, fun _ => 0)) : wpX_init post := by
  have e := sm_inL h 48 49 0 (by omega) (by omega)
  have z : sm_ci 0 = fun _ => 0 := by
    funext j; exact if_neg (Nat.not_lt_zero j)
  rw [z] at e
  exact ⟨49, e⟩
end
section
/-! what is owed -/
def i_Rel (k : Nat) (u : SX) (v : SY) : Prop := ∃ (val reg : Nat → Nat) (a d m : Nat), d ≤ 20 * k ∧ sm_R val reg a d m u v
theorem i_up {k : Nat} {u : SX} {v : SY} (h : i_Rel k u v) : i_Rel (k + 5) u v := by
  obtain ⟨val, reg, a, d, m, hd, R⟩ := h
  exact ⟨val, reg, a, d, m, by omega, R⟩
theorem i_vc0 : wpX_init (fun u => wpY_init (fun v => i_Rel 0 u v)) := by
  refine sm_inX ⟨fun _ => 0, fun _ => 0, 0, 0, 0, Nat.le_refl _, ?_⟩
  refine ⟨⟨rfl, rfl, rfl, rfl, rfl, rfl, rfl⟩, Or.inl rfl, Nat.zero_le _, by omega, ?_, sm_T0 rfl rfl rfl rfl rfl, sm_T0 rfl rfl rfl rfl rfl, ?_, ?_, ?_⟩
  · exact fun r hr => ⟨by show 0 < 256; decide, rfl, sm_T0 rfl rfl rfl rfl rfl⟩
  · exact fun w hw => ⟨sm_okz w, Or.inl ⟨rfl, if_pos hw⟩⟩
  · exact ⟨fun w hw => ⟨by show 0 % 16 ≤ 13; decide, by show (0 : Int32) = nI (0 % 16); decide, by show (0 : Int32) = nI (0 / 16 % 4); decide, by show (0 : Int32) = nI (0 / 64); decide⟩, fun c hc => rfl⟩
  · exact fun i hi => absurd hi (Nat.not_lt_zero i)
theorem i_vc_set {k : Nat} {u : SX} {v : SY} (I : i_Rel k u v) (hk : k + 5 ≤ 2560) (v1 : Int32) (v2 : Int32) (v3 : Int32) (v4 : Int32) : wpX_set (fun r u' => wpY_set (fun r' v' => r' = r ∧ i_Rel (k + 5) u' v') v v1 v2 v3 v4) u v1 v2 v3 v4 := by
  by_cases ok : sm_okS v1 v2 v3 v4
  · obtain ⟨p, o, q, n, hp, ho, hq, hn, rfl, rfl, rfl, rfl⟩ := ok
    obtain ⟨val, reg, a, d, m, hd, R⟩ := I
    refine sm_el (P := fun u v => wpX_set (fun r u' => wpY_set (fun r' v' => r' = r ∧ i_Rel (k + 5) u' v') v (nI p) (nI o) (nI q) (nI n)) u (nI p) (nI o) (nI q) (nI n)) ?_ R
    intro ph wh st rg pl rh wm cw sp ol rs yr ce op tg nu pa hi hst hm ha RG Tp Tw K Y O
    exact sm_setX hp ho hq hn (sm_setY hp ho hq hn ⟨rfl, ⟨sm_u val p (o + 16 * q + 64 * n), reg, a, d, m, by omega, sm_in hst hm ha RG Tp Tw (sm_Wd_wr K (by omega) (sm_ok22 hp (by omega))) (sm_Yp_s Y hp ho hq rfl) O⟩⟩)
  · exact sm_setXb ok (sm_setYb ok ⟨rfl, i_up I⟩)
theorem i_vc_setData {k : Nat} {u : SX} {v : SY} (I : i_Rel k u v) (hk : k + 5 ≤ 2560) (v1 : Int32) (v2 : Int32) : wpX_setData (fun r u' => wpY_setData (fun r' v' => r' = r ∧ i_Rel (k + 5) u' v') v v1 v2) u v1 v2 := by
  by_cases ok : sm_ok2 16 256 v1 v2
  · obtain ⟨c, q, hc, hq, rfl, rfl⟩ := ok
    obtain ⟨val, reg, a, d, m, hd, R⟩ := I
    refine sm_el (P := fun u v => wpX_setData (fun r u' => wpY_setData (fun r' v' => r' = r ∧ i_Rel (k + 5) u' v') v (nI c) (nI q)) u (nI c) (nI q)) ?_ R
    intro ph wh st rg pl rh wm cw sp ol rs yr ce op tg nu pa hi hst hm ha RG Tp Tw K Y O
    exact sm_sdX hc hq (sm_sdY hc hq ⟨rfl, ⟨sm_u val (32 + c) q, reg, a, d, m, by omega, sm_in hst hm ha RG Tp Tw (sm_Wd_wr K (by omega) (sm_ok13 (by omega) hq)) (sm_Yp_c Y hc) O⟩⟩)
  · exact sm_sdXb ok (sm_sdYb ok ⟨rfl, i_up I⟩)
theorem i_vc_run {k : Nat} {u : SX} {v : SY} (I : i_Rel k u v) (hk : k + 5 ≤ 2560) (v1 : Int32) : wpX_run (fun r u' => wpY_run (fun r' v' => r' = r ∧ i_Rel (k + 5) u' v') v v1) u v1 := by
  obtain ⟨val, reg, a, d, m, hd, R⟩ := id I
  by_cases h0 : v1 < 0
  · obtain ⟨ph, wh, sd, st, oc, rg, pl, rh, wm, cw, sp, ol, rs⟩ := u
    obtain ⟨ta, sh, hl, dn, yr, ce, op, tg, nu, pa, ys, hi⟩ := v
    exact br_t h0 (br_t h0 ⟨rfl, i_up I⟩)
  by_cases h1 : v1 ≤ 100
  · obtain ⟨N, hN, rfl⟩ := sm_rng3 (n := 100) (by omega) h0 h1
    obtain ⟨q, d', a', m', val', reg', u', v', hd', R', X, Y⟩ := sm_run (N := N) (by omega) N 0 d a m val reg u v (by omega) (by omega) R
    obtain ⟨ph, wh, sd, st, oc, rg, pl, rh, wm, cw, sp, ol, rs⟩ := u
    obtain ⟨ta, sh, hl, dn, yr, ce, op, tg, nu, pa, ys, hi⟩ := v
    refine br_f h0 (br_t h1 ⟨N + 1, ?_⟩)
    refine X (fun r u' => wpY_run (fun r' v' => r' = r ∧ i_Rel (k + 5) u' v') (ta, sh, hl, dn, yr, ce, op, tg, nu, pa, ys, hi) (nI N)) (N + 1) (by omega) ?_
    refine br_f h0 (br_t h1 ⟨N + 1, ?_⟩)
    exact Y (fun r' v' => r' = nI q ∧ i_Rel (k + 5) u' v') (N + 1) (by omega) ⟨rfl, val', reg', a', d', m', by omega, R'⟩
  · obtain ⟨ph, wh, sd, st, oc, rg, pl, rh, wm, cw, sp, ol, rs⟩ := u
    obtain ⟨ta, sh, hl, dn, yr, ce, op, tg, nu, pa, ys, hi⟩ := v
    exact br_f h0 (br_f h1 (br_f h0 (br_f h1 ⟨rfl, i_up I⟩)))
theorem i_vc_reset {k : Nat} {u : SX} {v : SY} (I : i_Rel k u v) (hk : k + 5 ≤ 2560) : wpX_reset (fun u' => wpY_reset (fun v' => i_Rel (k + 5) u' v') v) u := by
  obtain ⟨val, reg, a, d, m, hd, R⟩ := I
  refine sm_el (P := fun u v => wpX_reset (fun u' => wpY_reset (fun v' => i_Rel (k + 5) u' v') v) u) ?_ R
  intro ph wh st rg pl rh wm cw sp ol rs yr ce op tg nu pa hi hst hm ha RG Tp Tw K Y O
  have C : sm_Cl (fun _ => 0) (sm_va rg (fun _ => 0) 4) (sm_fl yr 4 0) := by
    intro r hr
    refine ⟨by show 0 < 256; decide, sm_flt hr, fun c hc => ?_⟩
    exact if_pos (by omega)
  exact sm_rsX (sm_rsY ⟨val, fun _ => 0, 0, d, 0, by omega, sm_in (Or.inl rfl) (Nat.zero_le _) (by omega) (sm_Cl_R C (fun r hr => sm_flt hr) (fun r hr => sm_flt (by omega))) (sm_T0 (sm_flt (by omega)) (sm_flt (by omega)) (sm_flt (by omega)) rfl (sm_flt (by omega))) (sm_T0 (sm_flt (by omega)) (sm_flt (by omega)) (sm_flt (by omega)) rfl (sm_flt (by omega))) K Y (fun i hi => absurd hi (Nat.not_lt_zero i))⟩)
theorem i_vc_hitRegister {k : Nat} {u : SX} {v : SY} (I : i_Rel k u v) (hk : k + 5 ≤ 2560) (v1 : Int32) (v2 : Int32) (v3 : Int32) : wpX_hitRegister (fun r u' => wpY_hitRegister (fun r' v' => r' = r ∧ i_Rel (k + 5) u' v') v v1 v2 v3) u v1 v2 v3 := by
  by_cases ok : sm_okH v1 v2 v3
  · obtain ⟨w, c, q, hw, hc, hq1, hq, rfl, rfl, rfl⟩ := ok
    obtain ⟨val, reg, a, d, m, hd, R⟩ := I
    refine sm_el (P := fun u v => wpX_hitRegister (fun r u' => wpY_hitRegister (fun r' v' => r' = r ∧ i_Rel (k + 5) u' v') v (nI w) (nI c) (nI q)) u (nI w) (nI c) (nI q)) ?_ R
    intro ph wh st rg pl rh wm cw sp ol rs yr ce op tg nu pa hi hst hm ha RG Tp Tw K Y O
    have T := (RG w hw).2.2
    rcases sm_hc T hc with ⟨x, y⟩ | ⟨x, y1, y2⟩
    · refine sm_hrX hw hc hq1 hq (fun _ => sm_hrY hw hc hq1 hq y ⟨rfl, ?_⟩) (fun z => absurd x z)
      have RG' : sm_Rg reg (upd rg (w * 3 + c) (rg (w * 3 + c) ^^^ nI q)) (upd rh w ((1 : Int32) <<< (nI c &&& 31))) yr (upd hi w (nI c + 1)) := by
        intro r hr
        obtain ⟨g1, g2, g3⟩ := RG r hr
        refine ⟨g1, g2, ?_⟩
        by_cases z : r = w
        · subst z
          rw [pk_us, pk_us]
          exact sm_T_hit g3 hc y
        · rw [pk_un (j := r * 3) (by omega), pk_un (j := r * 3 + 1) (by omega), pk_un (j := r * 3 + 2) (by omega), pk_un z, pk_un z]
          exact g3
      have Tp' : sm_T (pl 0) (pl 1) (pl 2) ph (nI a) (upd hi w (nI c + 1) 4) := by rw [pk_un (by omega)]; exact Tp
      have Tw' : sm_T (wm 0) (wm 1) (wm 2) wh 0 (upd hi w (nI c + 1) 5) := by rw [pk_un (by omega)]; exact Tw
      exact ⟨val, reg, a, d, m, by omega, sm_in hst hm ha RG' Tp' Tw' K Y O⟩
    · exact sm_hrX hw hc hq1 hq (fun z => absurd z x) (fun _ => sm_hrYc hw y1 y2 ⟨rfl, ⟨val, reg, a, d, m, by omega, sm_in hst hm ha RG Tp Tw K Y O⟩⟩)
  · exact sm_hrXb ok (sm_hrYb ok ⟨rfl, i_up I⟩)
theorem i_vc_hitPlace {k : Nat} {u : SX} {v : SY} (I : i_Rel k u v) (hk : k + 5 ≤ 2560) (v1 : Int32) (v2 : Int32) : wpX_hitPlace (fun r u' => wpY_hitPlace (fun r' v' => r' = r ∧ i_Rel (k + 5) u' v') v v1 v2) u v1 v2 := by
  by_cases ok : sm_okM 32 v1 v2
  · obtain ⟨c, q, hc, hq1, hq, rfl, rfl⟩ := ok
    obtain ⟨val, reg, a, d, m, hd, R⟩ := I
    refine sm_el (P := fun u v => wpX_hitPlace (fun r u' => wpY_hitPlace (fun r' v' => r' = r ∧ i_Rel (k + 5) u' v') v (nI c) (nI q)) u (nI c) (nI q)) ?_ R
    intro ph wh st rg pl rh wm cw sp ol rs yr ce op tg nu pa hi hst hm ha RG Tp Tw K Y O
    rcases sm_hc Tp hc with ⟨x, y⟩ | ⟨x, y1, y2⟩
    · refine sm_hpX hc hq1 hq (fun _ => sm_hpY hc hq1 hq y ⟨rfl, ?_⟩) (fun z => absurd x z)
      have RG' : sm_Rg reg rg rh yr (upd hi 4 (nI c + 1)) := by
        intro r hr
        rw [pk_un (by omega)]
        exact RG r hr
      have T1 : sm_T (upd pl c (pl c ^^^ nI q) 0) (upd pl c (pl c ^^^ nI q) 1) (upd pl c (pl c ^^^ nI q) 2) ((1 : Int32) <<< (nI c &&& 31)) (nI a) (upd hi 4 (nI c + 1) 4) := by
        rw [pk_us]
        exact sm_T_hit0 Tp hc y
      have T2 : sm_T (wm 0) (wm 1) (wm 2) wh 0 (upd hi 4 (nI c + 1) 5) := by rw [pk_un (by omega)]; exact Tw
      exact ⟨val, reg, a, d, m, by omega, sm_in hst hm ha RG' T1 T2 K Y O⟩
    · exact sm_hpX hc hq1 hq (fun z => absurd z x) (fun _ => sm_hpYc y1 y2 ⟨rfl, ⟨val, reg, a, d, m, by omega, sm_in hst hm ha RG Tp Tw K Y O⟩⟩)
  · exact sm_hpXb ok (sm_hpYb ok ⟨rfl, i_up I⟩)
theorem i_vc_hitWork {k : Nat} {u : SX} {v : SY} (I : i_Rel k u v) (hk : k + 5 ≤ 2560) (v1 : Int32) (v2 : Int32) : wpX_hitWork (fun r u' => wpY_hitWork (fun r' v' => r' = r ∧ i_Rel (k + 5) u' v') v v1 v2) u v1 v2 := by
  by_cases ok : sm_okM 256 v1 v2
  · obtain ⟨c, q, hc, hq1, hq, rfl, rfl⟩ := ok
    obtain ⟨val, reg, a, d, m, hd, R⟩ := I
    refine sm_el (P := fun u v => wpX_hitWork (fun r u' => wpY_hitWork (fun r' v' => r' = r ∧ i_Rel (k + 5) u' v') v (nI c) (nI q)) u (nI c) (nI q)) ?_ R
    intro ph wh st rg pl rh wm cw sp ol rs yr ce op tg nu pa hi hst hm ha RG Tp Tw K Y O
    rcases sm_hc Tw hc with ⟨x, y⟩ | ⟨x, y1, y2⟩
    · refine sm_hwX hc hq1 hq (fun _ => sm_hwY hc hq1 hq y ⟨rfl, ?_⟩) (fun z => absurd x z)
      have RG' : sm_Rg reg rg rh yr (upd hi 5 (nI c + 1)) := by
        intro r hr
        rw [pk_un (by omega)]
        exact RG r hr
      have T1 : sm_T (upd wm c (wm c ^^^ nI q) 0) (upd wm c (wm c ^^^ nI q) 1) (upd wm c (wm c ^^^ nI q) 2) ((1 : Int32) <<< (nI c &&& 31)) 0 (upd hi 5 (nI c + 1) 5) := by
        rw [pk_us]
        exact sm_T_hit0 Tw hc y
      have T2 : sm_T (pl 0) (pl 1) (pl 2) ph (nI a) (upd hi 5 (nI c + 1) 4) := by rw [pk_un (by omega)]; exact Tp
      exact ⟨val, reg, a, d, m, by omega, sm_in hst hm ha RG' T2 T1 K Y O⟩
    · exact sm_hwX hc hq1 hq (fun z => absurd z x) (fun _ => sm_hwYc y1 y2 ⟨rfl, ⟨val, reg, a, d, m, by omega, sm_in hst hm ha RG Tp Tw K Y O⟩⟩)
  · exact sm_hwXb ok (sm_hwYb ok ⟨rfl, i_up I⟩)
theorem i_vc_hitData {k : Nat} {u : SX} {v : SY} (I : i_Rel k u v) (hk : k + 5 ≤ 2560) (v1 : Int32) (v2 : Int32) : wpX_hitData (fun r u' => wpY_hitData (fun r' v' => r' = r ∧ i_Rel (k + 5) u' v') v v1 v2) u v1 v2 := by
  by_cases ok : sm_ok2 16 13 v1 v2
  · obtain ⟨c, b, hc, hb, rfl, rfl⟩ := ok
    obtain ⟨val, reg, a, d, m, hd, R⟩ := I
    refine sm_el (P := fun u v => wpX_hitData (fun r u' => wpY_hitData (fun r' v' => r' = r ∧ i_Rel (k + 5) u' v') v (nI c) (nI b)) u (nI c) (nI b)) ?_ R
    intro ph wh st rg pl rh wm cw sp ol rs yr ce op tg nu pa hi hst hm ha RG Tp Tw K Y O
    have hP : sm_P (32 + c) = 13 := sm_P13 (by omega)
    refine sm_hdX hc hb (fun z => sm_hdY hc hb (fun _ => ⟨rfl, ?_⟩) (fun y => absurd z y)) (fun z => sm_hdY hc hb (fun y => absurd y z) (fun _ => ⟨rfl, ?_⟩))
    · exact ⟨val, reg, a, d, m, by omega, sm_in hst hm ha RG Tp Tw (sm_Wd_hit K (by omega) (by rw [hP]; exact hb) z) Y O⟩
    · exact ⟨val, reg, a, d, m, by omega, sm_in hst hm ha RG Tp Tw K Y O⟩
  · exact sm_hdXb ok (sm_hdYb ok ⟨rfl, i_up I⟩)
theorem i_vc_hitProgram {k : Nat} {u : SX} {v : SY} (I : i_Rel k u v) (hk : k + 5 ≤ 2560) (v1 : Int32) (v2 : Int32) : wpX_hitProgram (fun r u' => wpY_hitProgram (fun r' v' => r' = r ∧ i_Rel (k + 5) u' v') v v1 v2) u v1 v2 := by
  by_cases ok : sm_ok2 32 22 v1 v2
  · obtain ⟨c, b, hc, hb, rfl, rfl⟩ := ok
    obtain ⟨val, reg, a, d, m, hd, R⟩ := I
    refine sm_el (P := fun u v => wpX_hitProgram (fun r u' => wpY_hitProgram (fun r' v' => r' = r ∧ i_Rel (k + 5) u' v') v (nI c) (nI b)) u (nI c) (nI b)) ?_ R
    intro ph wh st rg pl rh wm cw sp ol rs yr ce op tg nu pa hi hst hm ha RG Tp Tw K Y O
    have hP : sm_P (c) = 22 := sm_P22 hc
    refine sm_hgX hc hb (fun z => sm_hgY hc hb (fun _ => ⟨rfl, ?_⟩) (fun y => absurd z y)) (fun z => sm_hgY hc hb (fun y => absurd y z) (fun _ => ⟨rfl, ?_⟩))
    · exact ⟨val, reg, a, d, m, by omega, sm_in hst hm ha RG Tp Tw (sm_Wd_hit K (by omega) (by rw [hP]; exact hb) z) Y O⟩
    · exact ⟨val, reg, a, d, m, by omega, sm_in hst hm ha RG Tp Tw K Y O⟩
  · exact sm_hgXb ok (sm_hgYb ok ⟨rfl, i_up I⟩)
theorem i_vc_register {k : Nat} {u : SX} {v : SY} (I : i_Rel k u v) (hk : k + 5 ≤ 2560) (v1 : Int32) : wpX_register (fun r => wpY_register (fun r' => r' = r ∧ i_Rel (k + 5) u v) v v1) u v1 := by
  have J := i_up I
  obtain ⟨val, reg, a, d, m, hd, R⟩ := I
  refine sm_el (P := fun u v => i_Rel (k + 5) u v → wpX_register (fun r => wpY_register (fun r' => r' = r ∧ i_Rel (k + 5) u v) v v1) u v1) ?_ R J
  intro ph wh st rg pl rh wm cw sp ol rs yr ce op tg nu pa hi hst hm ha RG Tp Tw K Y O J
  unfold wpX_register
  dsimp only
  refine sm_isRX (fun r hr e => br_f (by decide) ?_) (fun ok => br_t rfl ?_)
  · subst e
    refine sm_vr hr (RG r hr).2.2 ?_
    unfold wpY_register
    dsimp only
    refine sm_isRY (fun r' hr' e' => br_f (by decide) ⟨vp_in_nI hr (by omega), ?_⟩) (fun ok => absurd ⟨r, hr, rfl⟩ ok)
    rw [nI_clamp (by omega)]
    exact ⟨rfl, J⟩
  · unfold wpY_register
    dsimp only
    exact sm_isRY (fun r hr e => absurd ⟨r, hr, e⟩ ok) (fun _ => br_t rfl ⟨rfl, J⟩)
theorem i_vc_place {k : Nat} {u : SX} {v : SY} (I : i_Rel k u v) (hk : k + 5 ≤ 2560) : wpX_place (fun r => wpY_place (fun r' => r' = r ∧ i_Rel (k + 5) u v) v) u := by
  have J := i_up I
  obtain ⟨val, reg, a, d, m, hd, R⟩ := I
  refine sm_el (P := fun u v => i_Rel (k + 5) u v → wpX_place (fun r => wpY_place (fun r' => r' = r ∧ i_Rel (k + 5) u v) v) u) ?_ R J
  intro ph wh st rg pl rh wm cw sp ol rs yr ce op tg nu pa hi hst hm ha RG Tp Tw K Y O J
  unfold wpX_place
  dsimp only
  exact sm_vp Tp ⟨rfl, J⟩
theorem i_vc_data {k : Nat} {u : SX} {v : SY} (I : i_Rel k u v) (hk : k + 5 ≤ 2560) (v1 : Int32) : wpX_data (fun r => wpY_data (fun r' => r' = r ∧ i_Rel (k + 5) u v) v v1) u v1 := by
  have J := i_up I
  obtain ⟨val, reg, a, d, m, hd, R⟩ := I
  refine sm_el (P := fun u v => i_Rel (k + 5) u v → wpX_data (fun r => wpY_data (fun r' => r' = r ∧ i_Rel (k + 5) u v) v v1) u v1) ?_ R J
  intro ph wh st rg pl rh wm cw sp ol rs yr ce op tg nu pa hi hst hm ha RG Tp Tw K Y O J
  unfold wpX_data
  dsimp only
  refine br_c (fun z => ?_) (fun a0 => br_c (fun z => ?_) (fun a1 => ?_))
  · unfold wpY_data
    dsimp only
    exact sm_isCY (fun r hr e => absurd z (by rw [e]; exact nI_pos (by omega))) (fun _ => br_t rfl ⟨rfl, J⟩)
  · unfold wpY_data
    dsimp only
    exact sm_isCY (fun r hr e => absurd z (by rw [e]; exact nI_ge (b := 16) hr (by omega))) (fun _ => br_t rfl ⟨rfl, J⟩)
  · obtain ⟨c, hc, rfl⟩ := sm_rng (n := 16) (by omega) a0 a1
    have e : 32 + nI c = nI (32 + c) := nI_add 32 c
    rw [e]
    refine sm_rw (by omega) (K (32 + c) (by omega)).1 (K (32 + c) (by omega)).2 ?_
    unfold wpY_data
    dsimp only
    refine sm_isCY (fun r hr e => br_f (by decide) ⟨vp_in_nI hc (by omega), ?_⟩) (fun ok => absurd ⟨c, hc, rfl⟩ ok)
    rw [nI_clamp (by omega), Y.2 c hc]
    exact ⟨rfl, J⟩
theorem i_vc_outs {k : Nat} {u : SX} {v : SY} (I : i_Rel k u v) (hk : k + 5 ≤ 2560) : wpX_outs (fun r => wpY_outs (fun r' => r' = r ∧ i_Rel (k + 5) u v) v) u := by
  have J := i_up I
  obtain ⟨val, reg, a, d, m, hd, R⟩ := I
  refine sm_el (P := fun u v => i_Rel (k + 5) u v → wpX_outs (fun r => wpY_outs (fun r' => r' = r ∧ i_Rel (k + 5) u v) v) u) ?_ R J
  intro ph wh st rg pl rh wm cw sp ol rs yr ce op tg nu pa hi hst hm ha RG Tp Tw K Y O J
  exact ⟨rfl, J⟩
theorem i_vc_out {k : Nat} {u : SX} {v : SY} (I : i_Rel k u v) (hk : k + 5 ≤ 2560) (v1 : Int32) : wpX_out (fun r => wpY_out (fun r' => r' = r ∧ i_Rel (k + 5) u v) v v1) u v1 := by
  have J := i_up I
  obtain ⟨val, reg, a, d, m, hd, R⟩ := I
  refine sm_el (P := fun u v => i_Rel (k + 5) u v → wpX_out (fun r => wpY_out (fun r' => r' = r ∧ i_Rel (k + 5) u v) v v1) u v1) ?_ R J
  intro ph wh st rg pl rh wm cw sp ol rs yr ce op tg nu pa hi hst hm ha RG Tp Tw K Y O J
  unfold wpX_out
  dsimp only
  unfold wpY_out
  dsimp only
  refine br_c (fun z => br_t z ⟨rfl, J⟩) (fun a0 => br_c (fun z => br_f a0 (br_t z ⟨rfl, J⟩)) (fun a1 => ?_))
  obtain ⟨i, hi', rfl⟩ := sm_rng (n := m) (by omega) a0 a1
  refine ⟨vp_in_nI (by omega) (by omega), br_f a0 (br_f a1 ⟨vp_in_nI (by omega) (by omega), ?_⟩)⟩
  rw [nI_clamp (by omega), O i hi']
  exact ⟨rfl, J⟩
theorem i_vc_stopped {k : Nat} {u : SX} {v : SY} (I : i_Rel k u v) (hk : k + 5 ≤ 2560) : wpX_stopped (fun r => wpY_stopped (fun r' => r' = r ∧ i_Rel (k + 5) u v) v) u := by
  have J := i_up I
  obtain ⟨val, reg, a, d, m, hd, R⟩ := I
  refine sm_el (P := fun u v => i_Rel (k + 5) u v → wpX_stopped (fun r => wpY_stopped (fun r' => r' = r ∧ i_Rel (k + 5) u v) v) u) ?_ R J
  intro ph wh st rg pl rh wm cw sp ol rs yr ce op tg nu pa hi hst hm ha RG Tp Tw K Y O J
  have e : narrow .boolean (.int st) = .int st := by rcases hst with rfl | rfl <;> rfl
  exact ⟨e, e, rfl, J⟩
theorem i_vc_spoiled {k : Nat} {u : SX} {v : SY} (I : i_Rel k u v) (hk : k + 5 ≤ 2560) : wpX_spoiled (fun r => wpY_spoiled (fun r' => r' = r ∧ i_Rel (k + 5) u v) v) u := by
  have J := i_up I
  obtain ⟨val, reg, a, d, m, hd, R⟩ := I
  refine sm_el (P := fun u v => i_Rel (k + 5) u v → wpX_spoiled (fun r => wpY_spoiled (fun r' => r' = r ∧ i_Rel (k + 5) u v) v) u) ?_ R J
  intro ph wh st rg pl rh wm cw sp ol rs yr ce op tg nu pa hi hst hm ha RG Tp Tw K Y O J
  exact sm_spX (sm_spY ⟨rfl, J⟩)
end
